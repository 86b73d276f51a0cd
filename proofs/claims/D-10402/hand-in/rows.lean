section
/-! Rows of ints: sums, bounds, greatest and least, what is still to be done (sr_act). No program here. -/
def sr_sum : List Int32 → Int32
  | [] => 0
  | y :: s => y + sr_sum s
theorem sr_sum_app (s t : List Int32) : sr_sum (s ++ t) = sr_sum s + sr_sum t := by
  induction s with
  | nil => simp only [List.nil_append, sr_sum]; exact (Int32.zero_add _).symm
  | cons y s ih => simp only [List.cons_append, sr_sum, ih]; exact (Int32.add_assoc _ _ _).symm
theorem sr_sum_mid (s t : List Int32) (v : Int32) : sr_sum (s ++ v :: t) = sr_sum s + v + sr_sum t := by
  rw [sr_sum_app]
  show sr_sum s + (v + sr_sum t) = _
  exact (Int32.add_assoc _ _ _).symm
theorem sr_sum_rev (s : List Int32) : sr_sum s.reverse = sr_sum s := by
  induction s with
  | nil => rfl
  | cons y s ih =>
    rw [List.reverse_cons, sr_sum_app, ih]
    show sr_sum s + (y + 0) = y + sr_sum s
    rw [Int32.add_zero, Int32.add_comm]
theorem sr_sum_neg (s : List Int32) : sr_sum (s.map (fun y => -y)) = -sr_sum s := by
  induction s with
  | nil => rfl
  | cons y s ih =>
    show -y + sr_sum (s.map (fun y => -y)) = -(y + sr_sum s)
    rw [ih]
    grind
theorem sr_sum_add (s : List Int32) (d : Int32) : sr_sum (s.map (fun y => y + d)) = sr_sum s + d * nI s.length := by
  induction s with
  | nil =>
    show (0 : Int32) = 0 + d * nI 0
    rw [nI_0]
    grind
  | cons y s ih =>
    show y + d + sr_sum (s.map (fun y => y + d)) = y + sr_sum s + d * nI (s.length + 1)
    rw [ih, nI_succ]
    grind
/-- sums of Int32 as integers, up to a turn round -/
theorem sr_ia (a b : Int32) : (a + b).toInt = a.toInt + b.toInt ∨ (a + b).toInt = a.toInt + b.toInt + 4294967296 ∨ (a + b).toInt = a.toInt + b.toInt - 4294967296 := by
  have e : ((2 ^ 32 : Nat) : Int) = 4294967296 := by decide
  have h1 := Int32.toInt_lt a
  have h2 := Int32.le_toInt a
  have h3 := Int32.toInt_lt b
  have h4 := Int32.le_toInt b
  rw [Int32.toInt_add, Int.bmod_def, e]
  split <;> omega
theorem sr_in {y : Int32} (h : -1000000 ≤ y.toInt) : (-y).toInt = -y.toInt := by
  have e : ((2 ^ 32 : Nat) : Int) = 4294967296 := by decide
  have h1 := Int32.toInt_lt y
  rw [Int32.toInt_neg, Int.bmod_def, e]
  split <;> omega
def sr_bv (y : Int32) : Prop := -1000000 ≤ y.toInt ∧ y.toInt ≤ 1000000
def sr_bd (s : List Int32) : Prop := ∀ y, y ∈ s → sr_bv y
def sr_mx (h : Int32) (s : List Int32) : Prop := h ∈ s ∧ ∀ y, y ∈ s → y.toInt ≤ h.toInt
def sr_mn (h : Int32) (s : List Int32) : Prop := h ∈ s ∧ ∀ y, y ∈ s → h.toInt ≤ y.toInt
theorem sr_addm {a b d : Int32} (ha : sr_bv a) (hb : sr_bv b) (hc : sr_bv (a + d)) (hd : sr_bv (b + d)) (h : a.toInt ≤ b.toInt) : (a + d).toInt ≤ (b + d).toInt := by
  unfold sr_bv at *
  have h1 := sr_ia a d
  have h2 := sr_ia b d
  omega
theorem sr_bv_neg {y : Int32} (h : sr_bv y) : sr_bv (-y) := by
  unfold sr_bv at *
  rw [sr_in h.1]
  omega
theorem sr_bd_app {s t : List Int32} : sr_bd (s ++ t) ↔ sr_bd s ∧ sr_bd t := by
  unfold sr_bd
  constructor
  · intro h
    exact ⟨fun y hy => h y (List.mem_append_left _ hy), fun y hy => h y (List.mem_append_right _ hy)⟩
  · intro h y hy
    rcases List.mem_append.mp hy with z | z
    · exact h.1 y z
    · exact h.2 y z
theorem sr_bd_cons {s : List Int32} {v : Int32} : sr_bd (v :: s) ↔ sr_bv v ∧ sr_bd s := by
  unfold sr_bd
  constructor
  · intro h
    exact ⟨h v List.mem_cons_self, fun y hy => h y (List.mem_cons_of_mem _ hy)⟩
  · intro h y hy
    rcases List.mem_cons.mp hy with z | z
    · rw [z]; exact h.1
    · exact h.2 y z
theorem sr_bd_rev {s : List Int32} (h : sr_bd s) : sr_bd s.reverse := fun y hy => h y (List.mem_reverse.mp hy)
theorem sr_bd_neg {s : List Int32} (h : sr_bd s) : sr_bd (s.map (fun y => -y)) := by
  intro y hy
  obtain ⟨z, hz, rfl⟩ := List.mem_map.mp hy
  exact sr_bv_neg (h z hz)
theorem sr_mx_rev {s : List Int32} {h : Int32} (k : sr_mx h s) : sr_mx h s.reverse := ⟨List.mem_reverse.mpr k.1, fun y hy => k.2 y (List.mem_reverse.mp hy)⟩
theorem sr_mn_rev {s : List Int32} {h : Int32} (k : sr_mn h s) : sr_mn h s.reverse := ⟨List.mem_reverse.mpr k.1, fun y hy => k.2 y (List.mem_reverse.mp hy)⟩
theorem sr_mx_neg {s : List Int32} {h : Int32} (b : sr_bd s) (k : sr_mn h s) : sr_mx (-h) (s.map (fun y => -y)) := by
  refine ⟨List.mem_map.mpr ⟨h, k.1, rfl⟩, fun y hy => ?_⟩
  obtain ⟨z, hz, rfl⟩ := List.mem_map.mp hy
  rw [sr_in (b z hz).1, sr_in (b h k.1).1]
  have := k.2 z hz
  omega
theorem sr_mn_neg {s : List Int32} {h : Int32} (b : sr_bd s) (k : sr_mx h s) : sr_mn (-h) (s.map (fun y => -y)) := by
  refine ⟨List.mem_map.mpr ⟨h, k.1, rfl⟩, fun y hy => ?_⟩
  obtain ⟨z, hz, rfl⟩ := List.mem_map.mp hy
  rw [sr_in (b z hz).1, sr_in (b h k.1).1]
  have := k.2 z hz
  omega
theorem sr_mx_add {s : List Int32} {h d : Int32} (b : sr_bd s) (b' : sr_bd (s.map (fun y => y + d))) (k : sr_mx h s) : sr_mx (h + d) (s.map (fun y => y + d)) := by
  refine ⟨List.mem_map.mpr ⟨h, k.1, rfl⟩, fun y hy => ?_⟩
  obtain ⟨z, hz, rfl⟩ := List.mem_map.mp hy
  exact sr_addm (b z hz) (b h k.1) (b' _ hy) (b' _ (List.mem_map.mpr ⟨h, k.1, rfl⟩)) (k.2 z hz)
theorem sr_mn_add {s : List Int32} {h d : Int32} (b : sr_bd s) (b' : sr_bd (s.map (fun y => y + d))) (k : sr_mn h s) : sr_mn (h + d) (s.map (fun y => y + d)) := by
  refine ⟨List.mem_map.mpr ⟨h, k.1, rfl⟩, fun y hy => ?_⟩
  obtain ⟨z, hz, rfl⟩ := List.mem_map.mp hy
  exact sr_addm (b h k.1) (b z hz) (b' _ (List.mem_map.mpr ⟨h, k.1, rfl⟩)) (b' _ hy) (k.2 z hz)
/-- what is still to be done to a subtree's row: turn, change signs, add -/
def sr_act (tu mi ad : Int32) (s : List Int32) : List Int32 := (if tu = 0 then s else s.reverse).map (fun y => (if mi = 0 then y else -y) + ad)
theorem sr_act_0 (s : List Int32) : sr_act 0 0 0 s = s := by
  unfold sr_act
  rw [if_pos rfl]
  conv => rhs; rw [← List.map_id s]
  apply List.map_congr_left
  intro y _
  rw [if_pos rfl, Int32.add_zero]
  rfl
theorem sr_act_len (tu mi ad : Int32) (s : List Int32) : (sr_act tu mi ad s).length = s.length := by
  unfold sr_act
  rw [List.length_map]
  by_cases h : tu = 0
  · rw [if_pos h]
  · rw [if_neg h, List.length_reverse]
theorem sr_act_T {tu mi ad : Int32} (s : List Int32) (h : ¬ tu = 0) : sr_act 0 mi ad s.reverse = sr_act tu mi ad s := by
  unfold sr_act
  rw [if_pos rfl, if_neg h]
theorem sr_act_M {mi ad : Int32} (s : List Int32) (h : ¬ mi = 0) : sr_act 0 0 ad (s.map (fun y => -y)) = sr_act 0 mi ad s := by
  unfold sr_act
  rw [if_pos rfl, if_pos rfl, List.map_map]
  apply List.map_congr_left
  intro y _
  show (if (0 : Int32) = 0 then -y else - -y) + ad = _
  rw [if_pos rfl, if_neg h]
theorem sr_act_A (ad : Int32) (s : List Int32) : sr_act 0 0 0 (s.map (fun y => y + ad)) = sr_act 0 0 ad s := by
  rw [sr_act_0]
  unfold sr_act
  rw [if_pos rfl]
  apply List.map_congr_left
  intro y _
  rw [if_pos rfl]
theorem sr_act_A' (ad : Int32) (s : List Int32) : sr_act 0 0 ad s = s.map (fun y => y + ad) := by
  rw [← sr_act_A, sr_act_0]
theorem sr_act_t {tu tu' mi ad : Int32} (s : List Int32) (h : (tu = 0 ∧ ¬ tu' = 0) ∨ (¬ tu = 0 ∧ tu' = 0)) : sr_act tu' mi ad s = (sr_act tu mi ad s).reverse := by
  unfold sr_act
  rcases h with ⟨h1, h2⟩ | ⟨h1, h2⟩
  · rw [if_pos h1, if_neg h2, List.map_reverse]
  · rw [if_neg h1, if_pos h2, List.map_reverse, List.reverse_reverse]
theorem sr_act_m {tu mi mi' ad : Int32} (s : List Int32) (h : (mi = 0 ∧ ¬ mi' = 0) ∨ (¬ mi = 0 ∧ mi' = 0)) : sr_act tu mi' (-ad) s = (sr_act tu mi ad s).map (fun y => -y) := by
  unfold sr_act
  rw [List.map_map]
  apply List.map_congr_left
  intro y _
  show (if mi' = 0 then y else -y) + -ad = -((if mi = 0 then y else -y) + ad)
  rcases h with ⟨h1, h2⟩ | ⟨h1, h2⟩
  · rw [if_pos h1, if_neg h2]; grind
  · rw [if_neg h1, if_pos h2]; grind
theorem sr_act_a (tu mi ad d : Int32) (s : List Int32) : sr_act tu mi (ad + d) s = (sr_act tu mi ad s).map (fun y => y + d) := by
  unfold sr_act
  rw [List.map_map]
  apply List.map_congr_left
  intro y _
  show (if mi = 0 then y else -y) + (ad + d) = (if mi = 0 then y else -y) + ad + d
  exact (Int32.add_assoc _ _ _).symm
/-- the picture of a subtree's greatest and least: node 0 has no number -/
def sr_hl (h m : Int32) (s : List Int32) : Prop := (s = [] ∧ h = -2000000 ∧ m = 2000000) ∨ (sr_mx h s ∧ sr_mn m s)
theorem sr_m2 : (-2000000 : Int32).toInt = -2000000 := by decide
theorem sr_p2 : (2000000 : Int32).toInt = 2000000 := by decide
theorem sr_pull_mx {a b : List Int32} {ha hb la lb v h : Int32} (Ra : sr_hl ha la a) (Rb : sr_hl hb lb b) (bv : sr_bv v) (h1 : ha ≤ h) (h2 : hb ≤ h) (h3 : v ≤ h) (h4 : h = ha ∨ h = hb ∨ h = v) : sr_mx h (a ++ v :: b) := by
  rw [Int32.le_iff_toInt_le] at h1 h2 h3
  have e := sr_m2
  unfold sr_bv at bv
  constructor
  · rcases h4 with z | z | z
    · rcases Ra with ⟨_, g, _⟩ | ⟨g, _⟩
      · rw [z, g, e] at h3
        omega
      · rw [z]; exact List.mem_append_left _ g.1
    · rcases Rb with ⟨_, g, _⟩ | ⟨g, _⟩
      · rw [z, g, e] at h3
        omega
      · rw [z]; exact List.mem_append_right _ (List.mem_cons_of_mem _ g.1)
    · rw [z]; exact List.mem_append_right _ List.mem_cons_self
  · intro y hy
    rcases List.mem_append.mp hy with z | z
    · rcases Ra with ⟨g, _⟩ | ⟨g, _⟩
      · rw [g] at z; exact absurd z List.not_mem_nil
      · have := g.2 y z
        omega
    · rcases List.mem_cons.mp z with z | z
      · rw [z]; exact h3
      · rcases Rb with ⟨g, _⟩ | ⟨g, _⟩
        · rw [g] at z; exact absurd z List.not_mem_nil
        · have := g.2 y z
          omega
theorem sr_pull_mn {a b : List Int32} {ha hb la lb v h : Int32} (Ra : sr_hl ha la a) (Rb : sr_hl hb lb b) (bv : sr_bv v) (h1 : h ≤ la) (h2 : h ≤ lb) (h3 : h ≤ v) (h4 : h = la ∨ h = lb ∨ h = v) : sr_mn h (a ++ v :: b) := by
  rw [Int32.le_iff_toInt_le] at h1 h2 h3
  have e := sr_p2
  unfold sr_bv at bv
  constructor
  · rcases h4 with z | z | z
    · rcases Ra with ⟨_, _, g⟩ | ⟨_, g⟩
      · rw [z, g, e] at h3
        omega
      · rw [z]; exact List.mem_append_left _ g.1
    · rcases Rb with ⟨_, _, g⟩ | ⟨_, g⟩
      · rw [z, g, e] at h3
        omega
      · rw [z]; exact List.mem_append_right _ (List.mem_cons_of_mem _ g.1)
    · rw [z]; exact List.mem_append_right _ List.mem_cons_self
  · intro y hy
    rcases List.mem_append.mp hy with z | z
    · rcases Ra with ⟨g, _⟩ | ⟨_, g⟩
      · rw [g] at z; exact absurd z List.not_mem_nil
      · have := g.2 y z
        omega
    · rcases List.mem_cons.mp z with z | z
      · rw [z]; exact h3
      · rcases Rb with ⟨g, _⟩ | ⟨_, g⟩
        · rw [g] at z; exact absurd z List.not_mem_nil
        · have := g.2 y z
          omega
/-- places: a row without doubles inside another is not longer -/
theorem sr_ph {l : List Nat} : ∀ {m : List Nat}, l.Nodup → (∀ k, k ∈ l → k ∈ m) → l.length ≤ m.length := by
  induction l with
  | nil => intro m _ _; exact Nat.zero_le _
  | cons x l ih =>
    intro m hn hs
    obtain ⟨hx, hl⟩ := List.nodup_cons.mp hn
    have hm : x ∈ m := hs x List.mem_cons_self
    have h := ih (m := m.erase x) hl (fun k hk => by
      have hne : k ≠ x := fun e => hx (e ▸ hk)
      exact (List.mem_erase_of_ne hne).mpr (hs k (List.mem_cons_of_mem _ hk)))
    rw [List.length_erase_of_mem hm] at h
    have : 0 < m.length := List.length_pos_of_mem hm
    show l.length + 1 ≤ m.length
    omega
theorem sr_ph48 {l : List Nat} (hn : l.Nodup) (h : ∀ k, k ∈ l → 1 ≤ k ∧ k ≤ 48) : l.length ≤ 48 := by
  have := sr_ph (m := List.range' 1 48) hn (fun k hk => by
    have := h k hk
    rw [List.mem_range'_1]
    omega)
  rw [List.length_range'] at this
  exact this
theorem sr_ph48' {l : List Nat} (h : ∀ k, 1 ≤ k → k ≤ 48 → k ∈ l) : 48 ≤ l.length := by
  have := sr_ph (l := List.range' 1 48) (m := l) List.nodup_range' (fun k hk => by
    rw [List.mem_range'_1] at hk
    exact h k (by omega) (by omega))
  rw [List.length_range'] at this
  exact this
end
section
/-! The picture: a tree of node numbers (leaf: no node), its row, and what the arrays must hold at its nodes. -/
abbrev sr_T : Type := Lean.RArray Unit
abbrev sr_row (u : St1) : Int32 := u.1
abbrev sr_clip (u : St1) : Int32 := u.2.1
abbrev sr_lf (u : St1) : Nat → Int32 := u.2.2.2.2.2.1
abbrev sr_rg (u : St1) : Nat → Int32 := u.2.2.2.2.2.2.1
abbrev sr_up (u : St1) : Nat → Int32 := u.2.2.2.2.2.2.2.1
abbrev sr_v (u : St1) : Nat → Int32 := u.2.2.2.2.2.2.2.2.1
abbrev sr_sz (u : St1) : Nat → Int32 := u.2.2.2.2.2.2.2.2.2.1
abbrev sr_to (u : St1) : Nat → Int32 := u.2.2.2.2.2.2.2.2.2.2.1
abbrev sr_hi (u : St1) : Nat → Int32 := u.2.2.2.2.2.2.2.2.2.2.2.2.1
abbrev sr_lo (u : St1) : Nat → Int32 := u.2.2.2.2.2.2.2.2.2.2.2.2.2.1
abbrev sr_tu (u : St1) : Nat → Int32 := u.2.2.2.2.2.2.2.2.2.2.2.2.2.2.1
abbrev sr_mi (u : St1) : Nat → Int32 := u.2.2.2.2.2.2.2.2.2.2.2.2.2.2.2.1
abbrev sr_ad (u : St1) : Nat → Int32 := u.2.2.2.2.2.2.2.2.2.2.2.2.2.2.2.2.1
abbrev sr_us (u : St1) : Nat → Int32 := u.2.2.2.2.2.2.2.2.2.2.2.2.2.2.2.2.2.1
abbrev sr_lef : sr_T := Lean.RArray.leaf ()
def sr_ids : sr_T → List Nat
  | .leaf _ => []
  | .branch x l r => sr_ids l ++ x :: sr_ids r
def sr_rt : sr_T → Nat
  | .leaf _ => 0
  | .branch x _ _ => x
def sr_seq (v tu mi ad : Nat → Int32) : sr_T → List Int32
  | .leaf _ => []
  | .branch x l r => sr_act (tu x) (mi x) (ad x) (sr_seq v tu mi ad l) ++ v x :: sr_act (tu x) (mi x) (ad x) (sr_seq v tu mi ad r)
abbrev sr_sq (u : St1) (t : sr_T) : List Int32 := sr_seq (sr_v u) (sr_tu u) (sr_mi u) (sr_ad u) t
def sr_at (u : St1) (x : Nat) (s : List Int32) : Prop := sr_sz u x = nI s.length ∧ sr_to u x = sr_sum s ∧ sr_mx (sr_hi u x) s ∧ sr_mn (sr_lo u x) s ∧ sr_bd s
def sr_ok (u : St1) : Nat → sr_T → Prop
  | _, .leaf _ => True
  | p, .branch x l r => (1 ≤ x ∧ x ≤ 48) ∧ sr_lf u x = nI (sr_rt l) ∧ sr_rg u x = nI (sr_rt r) ∧ sr_up u x = nI p ∧ sr_at u x (sr_sq u (.branch x l r)) ∧ sr_ok u x l ∧ sr_ok u x r
abbrev sr_eF (u u' : St1) (k : Nat) : Prop := sr_v u' k = sr_v u k ∧ sr_tu u' k = sr_tu u k ∧ sr_mi u' k = sr_mi u k ∧ sr_ad u' k = sr_ad u k
abbrev sr_eB (u u' : St1) (k : Nat) : Prop := sr_sz u' k = sr_sz u k ∧ sr_to u' k = sr_to u k ∧ sr_hi u' k = sr_hi u k ∧ sr_lo u' k = sr_lo u k
abbrev sr_eL (u u' : St1) (k : Nat) : Prop := sr_lf u' k = sr_lf u k ∧ sr_rg u' k = sr_rg u k
abbrev sr_eU (u u' : St1) (k : Nat) : Prop := sr_up u' k = sr_up u k
/-- all that the picture reads at node k stayed -/
abbrev sr_sm (u u' : St1) (k : Nat) : Prop := sr_eF u u' k ∧ sr_eB u u' k ∧ sr_eL u u' k ∧ sr_eU u u' k
/-- nothing was changed but at the nodes of S (and up[0]) -/
abbrev sr_out (u u' : St1) (S : List Nat) : Prop := ∀ k, k ∉ S → sr_eF u u' k ∧ sr_eB u u' k ∧ (k ≠ 0 → sr_eL u u' k ∧ sr_eU u u' k)
abbrev sr_b0 (u : St1) : Prop := sr_sz u 0 = 0 ∧ sr_to u 0 = 0 ∧ sr_hi u 0 = -2000000 ∧ sr_lo u 0 = 2000000
abbrev sr_z0 (u : St1) (x : Nat) : Prop := sr_tu u x = 0 ∧ sr_mi u x = 0 ∧ sr_ad u x = 0
theorem sr_eF_r (u : St1) (k : Nat) : sr_eF u u k := ⟨rfl, rfl, rfl, rfl⟩
theorem sr_eB_r (u : St1) (k : Nat) : sr_eB u u k := ⟨rfl, rfl, rfl, rfl⟩
theorem sr_eL_r (u : St1) (k : Nat) : sr_eL u u k := ⟨rfl, rfl⟩
theorem sr_out_r (u : St1) (S : List Nat) : sr_out u u S := fun k _ => ⟨sr_eF_r u k, sr_eB_r u k, fun _ => ⟨sr_eL_r u k, rfl⟩⟩
theorem sr_eF_t {u v w : St1} {k : Nat} (h : sr_eF u v k) (g : sr_eF v w k) : sr_eF u w k := ⟨g.1.trans h.1, g.2.1.trans h.2.1, g.2.2.1.trans h.2.2.1, g.2.2.2.trans h.2.2.2⟩
theorem sr_eB_t {u v w : St1} {k : Nat} (h : sr_eB u v k) (g : sr_eB v w k) : sr_eB u w k := ⟨g.1.trans h.1, g.2.1.trans h.2.1, g.2.2.1.trans h.2.2.1, g.2.2.2.trans h.2.2.2⟩
theorem sr_eL_t {u v w : St1} {k : Nat} (h : sr_eL u v k) (g : sr_eL v w k) : sr_eL u w k := ⟨g.1.trans h.1, g.2.trans h.2⟩
theorem sr_eU_t {u v w : St1} {k : Nat} (h : sr_eU u v k) (g : sr_eU v w k) : sr_eU u w k := Eq.trans g h
theorem sr_out_t {u v w : St1} {S : List Nat} (h : sr_out u v S) (g : sr_out v w S) : sr_out u w S := fun k hk =>
  ⟨sr_eF_t (h k hk).1 (g k hk).1, sr_eB_t (h k hk).2.1 (g k hk).2.1, fun z => ⟨sr_eL_t ((h k hk).2.2 z).1 ((g k hk).2.2 z).1, sr_eU_t ((h k hk).2.2 z).2 ((g k hk).2.2 z).2⟩⟩
theorem sr_out_w {u v : St1} {S S' : List Nat} (h : sr_out u v S) (g : ∀ k, k ∈ S → k ∈ S') : sr_out u v S' := fun k hk => h k (fun z => hk (g k z))
theorem sr_out_sm {u v : St1} {S : List Nat} (h : sr_out u v S) {k : Nat} (hk : k ∉ S) (h0 : k ≠ 0) : sr_sm u v k := ⟨(h k hk).1, (h k hk).2.1, ((h k hk).2.2 h0).1, ((h k hk).2.2 h0).2⟩
theorem sr_b0_o {u v : St1} {S : List Nat} (h : sr_out u v S) (hS : 0 ∉ S) (b : sr_b0 u) : sr_b0 v := by
  obtain ⟨_, ⟨e1, e2, e3, e4⟩, _⟩ := h 0 hS
  exact ⟨e1.trans b.1, e2.trans b.2.1, e3.trans b.2.2.1, e4.trans b.2.2.2⟩
theorem sr_rng {u : St1} : ∀ (t : sr_T) (p : Nat), sr_ok u p t → ∀ k, k ∈ sr_ids t → 1 ≤ k ∧ k ≤ 48 := by
  intro t
  induction t with
  | leaf _ => intro p _ k hk; exact absurd hk List.not_mem_nil
  | branch x l r ihl ihr =>
    intro p h k hk
    obtain ⟨hx, _, _, _, _, ol, or⟩ := h
    rcases List.mem_append.mp hk with z | z
    · exact ihl x ol k z
    · rcases List.mem_cons.mp z with z | z
      · rw [z]; exact hx
      · exact ihr x or k z
theorem sr_no0 {u : St1} {t : sr_T} {p : Nat} (h : sr_ok u p t) : 0 ∉ sr_ids t := fun z => absurd (sr_rng t p h 0 z).1 (by decide)
theorem sr_rt_in (t : sr_T) : sr_rt t = 0 ∨ sr_rt t ∈ sr_ids t := by
  cases t with
  | leaf _ => exact Or.inl rfl
  | branch x l r => exact Or.inr (List.mem_append_right _ List.mem_cons_self)
theorem sr_rt_lt {u : St1} {t : sr_T} {p : Nat} (h : sr_ok u p t) : sr_rt t < 49 := by
  rcases sr_rt_in t with z | z
  · omega
  · have := sr_rng t p h _ z
    omega
theorem sr_rt_ne {t : sr_T} {p : Nat} (h : p ∉ sr_ids t) (h0 : 1 ≤ p) : sr_rt t ≠ p := by
  intro e
  rcases sr_rt_in t with z | z
  · omega
  · rw [e] at z
    exact h z
theorem sr_len (v tu mi ad : Nat → Int32) (t : sr_T) : (sr_seq v tu mi ad t).length = (sr_ids t).length := by
  induction t with
  | leaf _ => rfl
  | branch x l r ihl ihr =>
    show (sr_act (tu x) (mi x) (ad x) (sr_seq v tu mi ad l) ++ v x :: sr_act (tu x) (mi x) (ad x) (sr_seq v tu mi ad r)).length = (sr_ids l ++ x :: sr_ids r).length
    rw [List.length_append, List.length_append, List.length_cons, List.length_cons, sr_act_len, sr_act_len, ihl, ihr]
theorem sr_seq_z {v tu mi ad : Nat → Int32} {x : Nat} {l r : sr_T} (h1 : tu x = 0) (h2 : mi x = 0) (h3 : ad x = 0) : sr_seq v tu mi ad (.branch x l r) = sr_seq v tu mi ad l ++ v x :: sr_seq v tu mi ad r := by
  show sr_act (tu x) (mi x) (ad x) (sr_seq v tu mi ad l) ++ v x :: sr_act (tu x) (mi x) (ad x) (sr_seq v tu mi ad r) = _
  rw [h1, h2, h3, sr_act_0, sr_act_0]
theorem sr_seq_c {u u' : St1} : ∀ (t : sr_T), (∀ k, k ∈ sr_ids t → sr_eF u u' k) → sr_sq u' t = sr_sq u t := by
  intro t
  induction t with
  | leaf _ => intro _; rfl
  | branch x l r ihl ihr =>
    intro h
    obtain ⟨e1, e2, e3, e4⟩ := h x (List.mem_append_right _ List.mem_cons_self)
    have el := ihl (fun k hk => h k (List.mem_append_left _ hk))
    have er := ihr (fun k hk => h k (List.mem_append_right _ (List.mem_cons_of_mem _ hk)))
    show sr_act (sr_tu u' x) (sr_mi u' x) (sr_ad u' x) (sr_sq u' l) ++ sr_v u' x :: sr_act (sr_tu u' x) (sr_mi u' x) (sr_ad u' x) (sr_sq u' r) = sr_act (sr_tu u x) (sr_mi u x) (sr_ad u x) (sr_sq u l) ++ sr_v u x :: sr_act (sr_tu u x) (sr_mi u x) (sr_ad u x) (sr_sq u r)
    rw [e1, e2, e3, e4, el, er]
theorem sr_at_c {u u' : St1} {x : Nat} {s : List Int32} (h : sr_at u x s) (e : sr_eB u u' x) : sr_at u' x s := by
  obtain ⟨h1, h2, h3, h4, h5⟩ := h
  obtain ⟨e1, e2, e3, e4⟩ := e
  refine ⟨e1.trans h1, e2.trans h2, ?_, ?_, h5⟩
  · rw [e3]; exact h3
  · rw [e4]; exact h4
theorem sr_ok_s {u u' : St1} : ∀ (t : sr_T) (p : Nat), sr_ok u p t → (∀ k, k ∈ sr_ids t → sr_sm u u' k) → sr_ok u' p t := by
  intro t
  induction t with
  | leaf _ => intro p _ _; exact trivial
  | branch x l r ihl ihr =>
    intro p h hs
    obtain ⟨hx, hl, hr, hu, ha, ol, or⟩ := h
    obtain ⟨eF, eB, eL, eU⟩ := hs x (List.mem_append_right _ List.mem_cons_self)
    have e : sr_sq u' (.branch x l r) = sr_sq u (.branch x l r) := sr_seq_c _ (fun k hk => (hs k hk).1)
    refine ⟨hx, eL.1.trans hl, eL.2.trans hr, Eq.trans eU hu, ?_, ihl x ol (fun k hk => hs k (List.mem_append_left _ hk)), ihr x or (fun k hk => hs k (List.mem_append_right _ (List.mem_cons_of_mem _ hk)))⟩
    rw [e]
    exact sr_at_c ha eB
/-- the same tree under another node -/
theorem sr_ok_p {u u' : St1} {t : sr_T} {p q : Nat} (h : sr_ok u p t) (n : (sr_ids t).Nodup) (hs : ∀ k, k ∈ sr_ids t → sr_eF u u' k ∧ sr_eB u u' k ∧ sr_eL u u' k) (hu : ∀ k, k ∈ sr_ids t → k ≠ sr_rt t → sr_eU u u' k) (hq : sr_rt t ≠ 0 → sr_up u' (sr_rt t) = nI q) : sr_ok u' q t := by
  cases t with
  | leaf _ => exact trivial
  | branch x l r =>
    obtain ⟨hx, hl, hr, _, ha, ol, or⟩ := h
    obtain ⟨eF, eB, eL⟩ := hs x (List.mem_append_right _ List.mem_cons_self)
    have e : sr_sq u' (.branch x l r) = sr_sq u (.branch x l r) := sr_seq_c _ (fun k hk => (hs k hk).1)
    have n' : (sr_ids l ++ x :: sr_ids r).Nodup := n
    rw [List.nodup_append, List.nodup_cons] at n'
    obtain ⟨_, ⟨nr, _⟩, nl⟩ := n'
    refine ⟨hx, eL.1.trans hl, eL.2.trans hr, hq (show x ≠ 0 by omega), ?_, sr_ok_s l x ol (fun k hk => ?_), sr_ok_s r x or (fun k hk => ?_)⟩
    · rw [e]
      exact sr_at_c ha eB
    · have m : k ∈ sr_ids (.branch x l r) := List.mem_append_left _ hk
      obtain ⟨g1, g2, g3⟩ := hs k m
      exact ⟨g1, g2, g3, hu k m (fun z => nl k hk x List.mem_cons_self z)⟩
    · have m : k ∈ sr_ids (.branch x l r) := List.mem_append_right _ (List.mem_cons_of_mem _ hk)
      obtain ⟨g1, g2, g3⟩ := hs k m
      exact ⟨g1, g2, g3, hu k m (fun z => nr ((show k = x from z) ▸ hk))⟩
/-- a tree apart from what was changed -/
theorem sr_keep {u u' : St1} {t : sr_T} {p : Nat} {S : List Nat} (h : sr_ok u p t) (o : sr_out u u' S) (d : ∀ k, k ∈ sr_ids t → k ∉ S) : sr_ok u' p t ∧ sr_sq u' t = sr_sq u t := by
  have hs : ∀ k, k ∈ sr_ids t → sr_sm u u' k := fun k hk => sr_out_sm o (d k hk) (fun e => sr_no0 h (e ▸ hk))
  exact ⟨sr_ok_s t p h hs, sr_seq_c t (fun k hk => (hs k hk).1)⟩
/-- what the arrays hold at a tree's top, node 0 with it -/
def sr_ra (u : St1) (x : Nat) (s : List Int32) : Prop := sr_sz u x = nI s.length ∧ sr_to u x = sr_sum s ∧ sr_hl (sr_hi u x) (sr_lo u x) s ∧ sr_bd s
theorem sr_ra_ok {u : St1} {t : sr_T} {p : Nat} (h : sr_ok u p t) (b : sr_b0 u) : sr_ra u (sr_rt t) (sr_sq u t) := by
  cases t with
  | leaf _ =>
    obtain ⟨b1, b2, b3, b4⟩ := b
    exact ⟨b1, b2, Or.inl ⟨rfl, b3, b4⟩, fun y hy => absurd hy List.not_mem_nil⟩
  | branch x l r =>
    obtain ⟨hx, hl, hr, _, ⟨a1, a2, a3, a4, a5⟩, ol, or⟩ := h
    exact ⟨a1, a2, Or.inr ⟨a3, a4⟩, a5⟩
/-- other subtrees under the same node, the row as it was -/
theorem sr_rep {u u' : St1} {p x : Nat} {l r l' r' : sr_T} (h : sr_ok u p (.branch x l r)) (ol : sr_ok u' x l') (or : sr_ok u' x r') (rl : sr_rt l' = sr_rt l) (rr : sr_rt r' = sr_rt r) (eL : sr_eL u u' x) (eU : sr_eU u u' x) (eB : sr_eB u u' x) (eV : sr_v u' x = sr_v u x)
    (al : sr_act (sr_tu u' x) (sr_mi u' x) (sr_ad u' x) (sr_sq u' l') = sr_act (sr_tu u x) (sr_mi u x) (sr_ad u x) (sr_sq u l))
    (ar : sr_act (sr_tu u' x) (sr_mi u' x) (sr_ad u' x) (sr_sq u' r') = sr_act (sr_tu u x) (sr_mi u x) (sr_ad u x) (sr_sq u r)) : sr_ok u' p (.branch x l' r') ∧ sr_sq u' (.branch x l' r') = sr_sq u (.branch x l r) := by
  obtain ⟨hx, hl, hr, hu, ha, _, _⟩ := h
  have e : sr_sq u' (.branch x l' r') = sr_sq u (.branch x l r) := by
    show sr_act (sr_tu u' x) (sr_mi u' x) (sr_ad u' x) (sr_sq u' l') ++ sr_v u' x :: sr_act (sr_tu u' x) (sr_mi u' x) (sr_ad u' x) (sr_sq u' r') = sr_act (sr_tu u x) (sr_mi u x) (sr_ad u x) (sr_sq u l) ++ sr_v u x :: sr_act (sr_tu u x) (sr_mi u x) (sr_ad u x) (sr_sq u r)
    rw [al, ar, eV]
  refine ⟨⟨hx, ?_, ?_, Eq.trans eU hu, ?_, ol, or⟩, e⟩
  · rw [rl]; exact eL.1.trans hl
  · rw [rr]; exact eL.2.trans hr
  · rw [e]; exact sr_at_c ha eB
/-! The way down to a node: frames (the node is left below p?, p, the other subtree), the nearest first. -/
abbrev sr_C : Type := List (Bool × Nat × sr_T)
def sr_par : sr_C → Nat
  | [] => 0
  | (_, p, _) :: _ => p
def sr_cid : sr_C → List Nat
  | [] => []
  | (_, p, c) :: r => p :: (sr_ids c ++ sr_cid r)
def sr_fs (v tu mi ad : Nat → Int32) : Bool → Nat → sr_T → List Int32 → List Int32
  | true, p, c, s => s ++ v p :: sr_seq v tu mi ad c
  | false, p, c, s => sr_seq v tu mi ad c ++ v p :: s
def sr_cs (v tu mi ad : Nat → Int32) : sr_C → List Int32 → List Int32
  | [], s => s
  | (d, p, c) :: r, s => sr_cs v tu mi ad r (sr_fs v tu mi ad d p c s)
def sr_cl : sr_C → Nat
  | [] => 0
  | (true, _, _) :: r => sr_cl r
  | (false, _, c) :: r => sr_cl r + ((sr_ids c).length + 1)
abbrev sr_fq (u : St1) (d : Bool) (p : Nat) (c : sr_T) (s : List Int32) : List Int32 := sr_fs (sr_v u) (sr_tu u) (sr_mi u) (sr_ad u) d p c s
abbrev sr_cq (u : St1) (c : sr_C) (s : List Int32) : List Int32 := sr_cs (sr_v u) (sr_tu u) (sr_mi u) (sr_ad u) c s
def sr_cok (u : St1) : sr_C → Nat → List Int32 → Prop
  | [], _, _ => True
  | (d, p, c) :: r, y, s => (1 ≤ p ∧ p ≤ 48) ∧ sr_lf u p = nI (if d then y else sr_rt c) ∧ sr_rg u p = nI (if d then sr_rt c else y) ∧ sr_up u p = nI (sr_par r) ∧ sr_z0 u p ∧ sr_at u p (sr_fq u d p c s) ∧ sr_ok u p c ∧ sr_cok u r p (sr_fq u d p c s)
def sr_Z (u : St1) (c : sr_C) (t : sr_T) : Prop := sr_ok u (sr_par c) t ∧ sr_cok u c (sr_rt t) (sr_sq u t) ∧ (sr_ids t ++ sr_cid c).Nodup
theorem sr_fs_c {u u' : St1} {d : Bool} {p : Nat} {c : sr_T} {s : List Int32} (hp : sr_eF u u' p) (hc : ∀ k, k ∈ sr_ids c → sr_eF u u' k) : sr_fq u' d p c s = sr_fq u d p c s := by
  have e := sr_seq_c c hc
  have ev := hp.1
  cases d with
  | true =>
    show s ++ sr_v u' p :: sr_sq u' c = s ++ sr_v u p :: sr_sq u c
    rw [e, ev]
  | false =>
    show sr_sq u' c ++ sr_v u' p :: s = sr_sq u c ++ sr_v u p :: s
    rw [e, ev]
theorem sr_cs_c {u u' : St1} : ∀ (c : sr_C) (s : List Int32), (∀ k, k ∈ sr_cid c → sr_eF u u' k) → sr_cq u' c s = sr_cq u c s := by
  intro c
  induction c with
  | nil => intro s _; rfl
  | cons f r ih =>
    obtain ⟨d, p, c⟩ := f
    intro s h
    show sr_cq u' r (sr_fq u' d p c s) = sr_cq u r (sr_fq u d p c s)
    rw [sr_fs_c (h p List.mem_cons_self) (fun k hk => h k (List.mem_cons_of_mem _ (List.mem_append_left _ hk)))]
    exact ih _ (fun k hk => h k (List.mem_cons_of_mem _ (List.mem_append_right _ hk)))
theorem sr_cok_s {u u' : St1} : ∀ (c : sr_C) (y : Nat) (s : List Int32), sr_cok u c y s → (∀ k, k ∈ sr_cid c → sr_sm u u' k) → sr_cok u' c y s := by
  intro c
  induction c with
  | nil => intro y s _ _; exact trivial
  | cons f r ih =>
    obtain ⟨d, p, c⟩ := f
    intro y s h hs
    obtain ⟨hp, hl, hr, hu, hz, ha, oc, hc⟩ := h
    obtain ⟨eF, eB, eL, eU⟩ := hs p List.mem_cons_self
    have hs1 : ∀ k, k ∈ sr_ids c → sr_sm u u' k := fun k hk => hs k (List.mem_cons_of_mem _ (List.mem_append_left _ hk))
    have e : sr_fq u' d p c s = sr_fq u d p c s := sr_fs_c eF (fun k hk => (hs1 k hk).1)
    refine ⟨hp, eL.1.trans hl, eL.2.trans hr, Eq.trans eU hu, ⟨eF.2.1.trans hz.1, eF.2.2.1.trans hz.2.1, eF.2.2.2.trans hz.2.2⟩, ?_, sr_ok_s c p oc hs1, ?_⟩
    · rw [e]; exact sr_at_c ha eB
    · rw [e]; exact ih p _ hc (fun k hk => hs k (List.mem_cons_of_mem _ (List.mem_append_right _ hk)))
theorem sr_crng {u : St1} : ∀ (c : sr_C) (y : Nat) (s : List Int32), sr_cok u c y s → ∀ k, k ∈ sr_cid c → 1 ≤ k ∧ k ≤ 48 := by
  intro c
  induction c with
  | nil => intro y s _ k hk; exact absurd hk List.not_mem_nil
  | cons f r ih =>
    obtain ⟨d, p, c⟩ := f
    intro y s h k hk
    obtain ⟨hp, _, _, _, _, _, oc, hc⟩ := h
    rcases List.mem_cons.mp hk with z | z
    · rw [z]; exact hp
    · rcases List.mem_append.mp z with z | z
      · exact sr_rng c p oc k z
      · exact ih p _ hc k z
theorem sr_clen : ∀ (c : sr_C), c.length ≤ (sr_cid c).length := by
  intro c
  induction c with
  | nil => exact Nat.le_refl 0
  | cons f r ih =>
    obtain ⟨d, p, c⟩ := f
    show r.length + 1 ≤ (sr_ids c ++ sr_cid r).length + 1
    rw [List.length_append]
    omega
theorem sr_par_lt {u : St1} {c : sr_C} {y : Nat} {s : List Int32} (h : sr_cok u c y s) : sr_par c < 49 := by
  cases c with
  | nil => exact (by decide : 0 < 49)
  | cons f r =>
    obtain ⟨d, p, c⟩ := f
    have := h.1
    show p < 49
    omega
/-- one step up, one step down -/
def sr_plug : Bool → Nat → sr_T → sr_T → sr_T
  | true, p, c, t => .branch p t c
  | false, p, c, t => .branch p c t
theorem sr_plug_ids (d : Bool) (p : Nat) (c t : sr_T) : (sr_ids (sr_plug d p c t)).Perm (sr_ids t ++ p :: sr_ids c) := by
  cases d with
  | true => exact List.Perm.refl _
  | false =>
    show (sr_ids c ++ p :: sr_ids t).Perm (sr_ids t ++ p :: sr_ids c)
    rw [List.perm_iff_count]
    intro k
    simp only [List.count_append, List.count_cons]
    omega
theorem sr_plug_seq {v tu mi ad : Nat → Int32} {d : Bool} {p : Nat} {c t : sr_T} (h1 : tu p = 0) (h2 : mi p = 0) (h3 : ad p = 0) : sr_seq v tu mi ad (sr_plug d p c t) = sr_fs v tu mi ad d p c (sr_seq v tu mi ad t) := by
  cases d with
  | true => exact sr_seq_z h1 h2 h3
  | false => exact sr_seq_z h1 h2 h3
theorem sr_plug_rt (d : Bool) (p : Nat) (c t : sr_T) : sr_rt (sr_plug d p c t) = p := by cases d <;> rfl
theorem sr_zup {u : St1} {d : Bool} {p : Nat} {c : sr_T} {r : sr_C} {t : sr_T} (h : sr_Z u ((d, p, c) :: r) t) : sr_Z u r (sr_plug d p c t) := by
  obtain ⟨ot, ⟨hp, hl, hr, hu, hz, ha, oc, hc⟩, hn⟩ := h
  have e : sr_sq u (sr_plug d p c t) = sr_fq u d p c (sr_sq u t) := sr_plug_seq hz.1 hz.2.1 hz.2.2
  refine ⟨?_, ?_, ?_⟩
  · have ha' : sr_at u p (sr_sq u (sr_plug d p c t)) := by rw [e]; exact ha
    cases d with
    | true => exact ⟨hp, hl, hr, hu, ha', ot, oc⟩
    | false => exact ⟨hp, hl, hr, hu, ha', oc, ot⟩
  · rw [sr_plug_rt, e]; exact hc
  · have hn' : (sr_ids t ++ (p :: (sr_ids c ++ sr_cid r))).Nodup := hn
    refine List.Perm.nodup ?_ hn'
    have q := (sr_plug_ids d p c t).append_right (sr_cid r)
    refine List.Perm.trans ?_ q.symm
    rw [List.append_assoc, List.cons_append]
theorem sr_zdn {u : St1} {d : Bool} {p : Nat} {c : sr_T} {r : sr_C} {t : sr_T} (h : sr_Z u r (sr_plug d p c t)) (hz : sr_z0 u p) : sr_Z u ((d, p, c) :: r) t := by
  obtain ⟨ot, hc, hn⟩ := h
  have e : sr_sq u (sr_plug d p c t) = sr_fq u d p c (sr_sq u t) := sr_plug_seq hz.1 hz.2.1 hz.2.2
  rw [sr_plug_rt, e] at hc
  have hn' : (sr_ids t ++ sr_cid ((d, p, c) :: r)).Nodup := by
    refine List.Perm.nodup ?_ hn
    have q := (sr_plug_ids d p c t).append_right (sr_cid r)
    refine List.Perm.trans q ?_
    rw [List.append_assoc, List.cons_append]
    exact List.Perm.refl _
  cases d with
  | true =>
    obtain ⟨hp, hl, hr, hu, ha, o1, o2⟩ := ot
    refine ⟨o1, ⟨hp, hl, hr, hu, hz, ?_, o2, hc⟩, hn'⟩
    rw [← e]; exact ha
  | false =>
    obtain ⟨hp, hl, hr, hu, ha, o1, o2⟩ := ot
    refine ⟨o2, ⟨hp, hl, hr, hu, hz, ?_, o1, hc⟩, hn'⟩
    rw [← e]; exact ha
end
section
/-! pull, turnAll, negateAll, addAll, push: the walks, and what they do to a tree. -/
theorem sr_cl0 {n : Nat} (h : n < 49) : (nI n).toNatClampNeg = n := nI_clamp (by omega)
theorem sr_vi {n : Nat} (h : n < 49) : vp_in (nI n) 49 := vp_in_nI h (by decide)
theorem sr_tot {a b : Int32} (h : ¬ a ≤ b) : b ≤ a := by
  rw [Int32.le_iff_toInt_le] at *
  omega
theorem sr_ler (a : Int32) : a ≤ a := by
  rw [Int32.le_iff_toInt_le]
  omega
theorem sr_let {a b c : Int32} (h : a ≤ b) (g : b ≤ c) : a ≤ c := by
  rw [Int32.le_iff_toInt_le] at *
  omega
theorem sr_p191 {post : St1 → Prop} {x : Nat} {z : Int32} {f1 f2 f3 f4 f5 : Int32} {a1 a2 a3 a4 a5 a6 a7 a8 a9 a10 a11 a12 a13 a14 a15 : Nat → Int32} (hx : x < 49)
    (H : ∀ m : Int32, m ≤ z → m ≤ a4 x → (m = z ∨ m = a4 x) → post (f1, f2, f3, f4, f5, a1, a2, a3, a4, a5, a6, a7, a8, upd a9 x m, a10, a11, a12, a13, a14, a15)) :
    wX_pull_191 post (nI x) z f1 f2 f3 f4 f5 a1 a2 a3 a4 a5 a6 a7 a8 a9 a10 a11 a12 a13 a14 a15 := by
  unfold wX_pull_191
  rw [sr_cl0 hx]
  have vx := sr_vi hx
  exact ⟨vx, br_c (fun h => ⟨vx, nm_e (H z (sr_ler z) h (Or.inl rfl))⟩) (fun h => ⟨vx, vx, nm_e (H (a4 x) (sr_tot h) (sr_ler _) (Or.inr rfl))⟩)⟩
theorem sr_p160 {post : St1 → Prop} {x l r : Nat} {z : Int32} {f1 f2 f3 f4 f5 : Int32} {a1 a2 a3 a4 a5 a6 a7 a8 a9 a10 a11 a12 a13 a14 a15 : Nat → Int32} (hx : x < 49) (hl : l < 49) (hr : r < 49)
    (H : ∀ m : Int32, m ≤ a9 l → m ≤ a9 r → m ≤ a4 x → (m = a9 l ∨ m = a9 r ∨ m = a4 x) → post (f1, f2, f3, f4, f5, a1, a2, a3, a4, a5, a6, a7, upd a8 x z, upd a9 x m, a10, a11, a12, a13, a14, a15)) :
    wX_pull_160 post (nI x) (nI l) (nI r) z (nI x) f1 f2 f3 f4 f5 a1 a2 a3 a4 a5 a6 a7 a8 a9 a10 a11 a12 a13 a14 a15 := by
  unfold wX_pull_160
  rw [sr_cl0 hx, sr_cl0 hl, sr_cl0 hr]
  have vx := sr_vi hx
  have vl := sr_vi hl
  have vr := sr_vi hr
  refine ⟨vx, nm_e ⟨vl, vr, br_c (fun h => ⟨vr, sr_p191 hx (fun m h1 h2 h3 => H m (sr_let h1 h) h1 h2 ?_)⟩) (fun h => ⟨vl, sr_p191 hx (fun m h1 h2 h3 => H m h1 (sr_let h1 (sr_tot h)) h2 ?_)⟩)⟩⟩
  · exact h3.elim (fun e => Or.inr (Or.inl e)) (fun e => Or.inr (Or.inr e))
  · exact h3.elim (fun e => Or.inl e) (fun e => Or.inr (Or.inr e))
theorem sr_p131 {post : St1 → Prop} {x l r : Nat} {z : Int32} {f1 f2 f3 f4 f5 : Int32} {a1 a2 a3 a4 a5 a6 a7 a8 a9 a10 a11 a12 a13 a14 a15 : Nat → Int32} (hx : x < 49) (hl : l < 49) (hr : r < 49)
    (H : ∀ h m : Int32, z ≤ h → a4 x ≤ h → (h = z ∨ h = a4 x) → m ≤ a9 l → m ≤ a9 r → m ≤ a4 x → (m = a9 l ∨ m = a9 r ∨ m = a4 x) → post (f1, f2, f3, f4, f5, a1, a2, a3, a4, a5, a6, a7, upd a8 x h, upd a9 x m, a10, a11, a12, a13, a14, a15)) :
    wX_pull_131 post (nI x) (nI l) (nI r) z f1 f2 f3 f4 f5 a1 a2 a3 a4 a5 a6 a7 a8 a9 a10 a11 a12 a13 a14 a15 := by
  unfold wX_pull_131
  rw [sr_cl0 hx]
  have vx := sr_vi hx
  exact ⟨vx, br_c (fun h => sr_p160 hx hl hr (fun m => H z m (sr_ler z) h (Or.inl rfl))) (fun h => ⟨vx, sr_p160 hx hl hr (fun m => H (a4 x) m (sr_tot h) (sr_ler _) (Or.inr rfl))⟩)⟩
theorem sr_pull {post : St1 → Prop} {x l r : Nat} {f1 f2 f3 f4 f5 : Int32} {a1 a2 a3 a4 a5 a6 a7 a8 a9 a10 a11 a12 a13 a14 a15 : Nat → Int32} (hx : x < 49) (hl : l < 49) (hr : r < 49) (el : a1 x = nI l) (er : a2 x = nI r)
    (H : ∀ (a7' : Nat → Int32) (h m : Int32), a8 l ≤ h → a8 r ≤ h → a4 x ≤ h → (h = a8 l ∨ h = a8 r ∨ h = a4 x) → m ≤ a9 l → m ≤ a9 r → m ≤ a4 x → (m = a9 l ∨ m = a9 r ∨ m = a4 x) →
      post (f1, f2, f3, f4, f5, a1, a2, a3, a4, upd a5 x (a5 l + 1 + a5 r), upd a6 x (a6 l + a4 x + a6 r), a7', upd a8 x h, upd a9 x m, a10, a11, a12, a13, a14, a15)) :
    wpX_pull post (f1, f2, f3, f4, f5, a1, a2, a3, a4, a5, a6, a7, a8, a9, a10, a11, a12, a13, a14, a15) (nI x) := by
  unfold wpX_pull
  dsimp only
  rw [sr_cl0 hx]
  have vx := sr_vi hx
  have vl := sr_vi hl
  have vr := sr_vi hr
  refine ⟨vx, nm_r el ⟨vx, nm_r er ?_⟩⟩
  rw [sr_cl0 hl, sr_cl0 hr]
  refine ⟨vl, nm_e ⟨vr, vx, nm_e ⟨vl, vx, vr, vx, nm_e ⟨vl, vx, vr, vr, vx, nm_e ⟨vl, vr, br_c (fun g => ⟨vr, ?_⟩) (fun g => ⟨vl, ?_⟩)⟩⟩⟩⟩⟩
  · exact sr_p131 hx hl hr (fun h m h1 h2 h3 => H _ h m (sr_let g h1) h1 h2 (h3.elim (fun e => Or.inr (Or.inl e)) (fun e => Or.inr (Or.inr e))))
  · exact sr_p131 hx hl hr (fun h m h1 h2 h3 => H _ h m h1 (sr_let (sr_tot g) h1) h2 (h3.elim (fun e => Or.inl e) (fun e => Or.inr (Or.inr e))))
/-- pull at a node whose two subtrees are in order -/
theorem sr_pullT {post : St1 → Prop} {x q : Nat} {l r : sr_T} {f1 f2 f3 f4 f5 : Int32} {a1 a2 a3 a4 a5 a6 a7 a8 a9 a10 a11 a12 a13 a14 a15 : Nat → Int32} (hb : sr_b0 (f1, f2, f3, f4, f5, a1, a2, a3, a4, a5, a6, a7, a8, a9, a10, a11, a12, a13, a14, a15)) (hx : 1 ≤ x ∧ x ≤ 48) (el : a1 x = nI (sr_rt l)) (er : a2 x = nI (sr_rt r)) (eu : a3 x = nI q) (z1 : a10 x = 0) (z2 : a11 x = 0) (z3 : a12 x = 0) (ol : sr_ok (f1, f2, f3, f4, f5, a1, a2, a3, a4, a5, a6, a7, a8, a9, a10, a11, a12, a13, a14, a15) x l) (or : sr_ok (f1, f2, f3, f4, f5, a1, a2, a3, a4, a5, a6, a7, a8, a9, a10, a11, a12, a13, a14, a15) x r) (xl : x ∉ sr_ids l) (xr : x ∉ sr_ids r) (hv : sr_bv (a4 x))
    (H : ∀ (a5' a6' a7' a8' a9' : Nat → Int32), sr_ok (f1, f2, f3, f4, f5, a1, a2, a3, a4, a5', a6', a7', a8', a9', a10, a11, a12, a13, a14, a15) q (.branch x l r) → (∀ k, k ≠ x → sr_eB (f1, f2, f3, f4, f5, a1, a2, a3, a4, a5, a6, a7, a8, a9, a10, a11, a12, a13, a14, a15) (f1, f2, f3, f4, f5, a1, a2, a3, a4, a5', a6', a7', a8', a9', a10, a11, a12, a13, a14, a15) k) → post (f1, f2, f3, f4, f5, a1, a2, a3, a4, a5', a6', a7', a8', a9', a10, a11, a12, a13, a14, a15)) :
    wpX_pull post (f1, f2, f3, f4, f5, a1, a2, a3, a4, a5, a6, a7, a8, a9, a10, a11, a12, a13, a14, a15) (nI x) := by
  have x49 : x < 49 := by omega
  refine sr_pull x49 (sr_rt_lt ol) (sr_rt_lt or) el er (fun a7' h m h1 h2 h3 h4 m1 m2 m3 m4 => ?_)
  have kB : ∀ k, k ≠ x → sr_eB (f1, f2, f3, f4, f5, a1, a2, a3, a4, a5, a6, a7, a8, a9, a10, a11, a12, a13, a14, a15) (f1, f2, f3, f4, f5, a1, a2, a3, a4, upd a5 x (a5 (sr_rt l) + 1 + a5 (sr_rt r)), upd a6 x (a6 (sr_rt l) + a4 x + a6 (sr_rt r)), a7', upd a8 x h, upd a9 x m, a10, a11, a12, a13, a14, a15) k :=
    fun k hk => ⟨pk_un hk, pk_un hk, pk_un hk, pk_un hk⟩
  refine H _ _ _ _ _ ⟨hx, el, er, eu, ?_, sr_ok_s l x ol (fun k hk => ⟨sr_eF_r (f1, f2, f3, f4, f5, a1, a2, a3, a4, a5, a6, a7, a8, a9, a10, a11, a12, a13, a14, a15) k, kB k (fun e => xl (e ▸ hk)), sr_eL_r (f1, f2, f3, f4, f5, a1, a2, a3, a4, a5, a6, a7, a8, a9, a10, a11, a12, a13, a14, a15) k, rfl⟩), sr_ok_s r x or (fun k hk => ⟨sr_eF_r (f1, f2, f3, f4, f5, a1, a2, a3, a4, a5, a6, a7, a8, a9, a10, a11, a12, a13, a14, a15) k, kB k (fun e => xr (e ▸ hk)), sr_eL_r (f1, f2, f3, f4, f5, a1, a2, a3, a4, a5, a6, a7, a8, a9, a10, a11, a12, a13, a14, a15) k, rfl⟩)⟩ kB
  have es : sr_seq a4 a10 a11 a12 (.branch x l r) = sr_seq a4 a10 a11 a12 l ++ a4 x :: sr_seq a4 a10 a11 a12 r := sr_seq_z z1 z2 z3
  obtain ⟨l1, l2, l3, l4⟩ := sr_ra_ok ol hb
  obtain ⟨r1, r2, r3, r4⟩ := sr_ra_ok or hb
  have l1 : a5 (sr_rt l) = nI (sr_seq a4 a10 a11 a12 l).length := l1
  have r1 : a5 (sr_rt r) = nI (sr_seq a4 a10 a11 a12 r).length := r1
  have l2 : a6 (sr_rt l) = sr_sum (sr_seq a4 a10 a11 a12 l) := l2
  have r2 : a6 (sr_rt r) = sr_sum (sr_seq a4 a10 a11 a12 r) := r2
  show sr_at _ x (sr_seq a4 a10 a11 a12 (.branch x l r))
  rw [es]
  refine ⟨?_, ?_, ?_, ?_, ?_⟩
  · show upd a5 x (a5 (sr_rt l) + 1 + a5 (sr_rt r)) x = _
    rw [pk_us, l1, r1, nI_1, nI_add, List.length_append, List.length_cons]
    congr 1
    omega
  · show upd a6 x (a6 (sr_rt l) + a4 x + a6 (sr_rt r)) x = _
    rw [pk_us, l2, r2, sr_sum_mid]
  · show sr_mx (upd a8 x h x) _
    rw [pk_us]
    exact sr_pull_mx l3 r3 hv h1 h2 h3 h4
  · show sr_mn (upd a9 x m x) _
    rw [pk_us]
    exact sr_pull_mn l3 r3 hv m1 m2 m3 m4
  · exact sr_bd_app.mpr ⟨l4, sr_bd_cons.mpr ⟨hv, r4⟩⟩
def sr_mir : sr_T → sr_T
  | .leaf _ => sr_lef
  | .branch x l r => .branch x r l
theorem sr_mir_rt (t : sr_T) : sr_rt (sr_mir t) = sr_rt t := by cases t <;> rfl
theorem sr_mir_ids (t : sr_T) : (sr_ids (sr_mir t)).Perm (sr_ids t) := by
  cases t with
  | leaf _ => exact List.Perm.refl _
  | branch x l r =>
    show (sr_ids r ++ x :: sr_ids l).Perm (sr_ids l ++ x :: sr_ids r)
    rw [List.perm_iff_count]
    intro k
    simp only [List.count_append, List.count_cons]
    omega
theorem sr_ndx {x : Nat} {l r : sr_T} (n : (sr_ids (.branch x l r)).Nodup) : x ∉ sr_ids l ∧ x ∉ sr_ids r ∧ (sr_ids l).Nodup ∧ (sr_ids r).Nodup ∧ (∀ k, k ∈ sr_ids l → k ∉ sr_ids r) := by
  have n' : (sr_ids l ++ x :: sr_ids r).Nodup := n
  rw [List.nodup_append, List.nodup_cons] at n'
  obtain ⟨n1, ⟨n2, n3⟩, n4⟩ := n'
  exact ⟨fun h => n4 x h x List.mem_cons_self rfl, n2, n1, n3, fun k h g => n4 k h k (List.mem_cons_of_mem _ g) rfl⟩
theorem sr_turnAll {post : St1 → Prop} {t : sr_T} {p : Nat} {f1 f2 f3 f4 f5 : Int32} {a1 a2 a3 a4 a5 a6 a7 a8 a9 a10 a11 a12 a13 a14 a15 : Nat → Int32} (ok : sr_ok (f1, f2, f3, f4, f5, a1, a2, a3, a4, a5, a6, a7, a8, a9, a10, a11, a12, a13, a14, a15) p t) (n : (sr_ids t).Nodup)
    (H : ∀ (a1' a2' a7' a10' : Nat → Int32), sr_ok (f1, f2, f3, f4, f5, a1', a2', a3, a4, a5, a6, a7', a8, a9, a10', a11, a12, a13, a14, a15) p (sr_mir t) → sr_seq a4 a10' a11 a12 (sr_mir t) = (sr_seq a4 a10 a11 a12 t).reverse → sr_out (f1, f2, f3, f4, f5, a1, a2, a3, a4, a5, a6, a7, a8, a9, a10, a11, a12, a13, a14, a15) (f1, f2, f3, f4, f5, a1', a2', a3, a4, a5, a6, a7', a8, a9, a10', a11, a12, a13, a14, a15) (sr_ids t) → post (f1, f2, f3, f4, f5, a1', a2', a3, a4, a5, a6, a7', a8, a9, a10', a11, a12, a13, a14, a15)) :
    wpX_turnAll post (f1, f2, f3, f4, f5, a1, a2, a3, a4, a5, a6, a7, a8, a9, a10, a11, a12, a13, a14, a15) (nI (sr_rt t)) := by
  cases t with
  | leaf _ =>
    unfold wpX_turnAll
    dsimp only
    exact br_t nI_0 (H a1 a2 a7 a10 trivial rfl (sr_out_r _ _))
  | branch x l r =>
    obtain ⟨hx, hl, hr, hu, ⟨t1, t2, t3, t4, t5⟩, ol, or⟩ := ok
    obtain ⟨xl, xr, nl, nr, nlr⟩ := sr_ndx n
    have x49 : x < 49 := by omega
    have vx := sr_vi x49
    have hl : a1 x = nI (sr_rt l) := hl
    have hr : a2 x = nI (sr_rt r) := hr
    have fin : ∀ (a7' : Nat → Int32) (w : Int32), ((a10 x = 0 ∧ ¬ w = 0) ∨ (¬ a10 x = 0 ∧ w = 0)) → post (f1, f2, f3, f4, f5, upd a1 x (nI (sr_rt r)), upd a2 x (nI (sr_rt l)), a3, a4, a5, a6, a7', a8, a9, upd a10 x w, a11, a12, a13, a14, a15) := by
      intro a7' w hw
      have sm : ∀ k, k ≠ x → sr_sm (f1, f2, f3, f4, f5, a1, a2, a3, a4, a5, a6, a7, a8, a9, a10, a11, a12, a13, a14, a15) (f1, f2, f3, f4, f5, upd a1 x (nI (sr_rt r)), upd a2 x (nI (sr_rt l)), a3, a4, a5, a6, a7', a8, a9, upd a10 x w, a11, a12, a13, a14, a15) k :=
        fun k hk => ⟨⟨rfl, pk_un hk, rfl, rfl⟩, ⟨rfl, rfl, rfl, rfl⟩, ⟨pk_un hk, pk_un hk⟩, rfl⟩
      have sl : sr_seq a4 (upd a10 x w) a11 a12 l = sr_seq a4 a10 a11 a12 l := sr_seq_c (u := (f1, f2, f3, f4, f5, a1, a2, a3, a4, a5, a6, a7, a8, a9, a10, a11, a12, a13, a14, a15)) (u' := (f1, f2, f3, f4, f5, upd a1 x (nI (sr_rt r)), upd a2 x (nI (sr_rt l)), a3, a4, a5, a6, a7', a8, a9, upd a10 x w, a11, a12, a13, a14, a15)) l (fun k hk => (sm k (fun e => xl (e ▸ hk))).1)
      have sr : sr_seq a4 (upd a10 x w) a11 a12 r = sr_seq a4 a10 a11 a12 r := sr_seq_c (u := (f1, f2, f3, f4, f5, a1, a2, a3, a4, a5, a6, a7, a8, a9, a10, a11, a12, a13, a14, a15)) (u' := (f1, f2, f3, f4, f5, upd a1 x (nI (sr_rt r)), upd a2 x (nI (sr_rt l)), a3, a4, a5, a6, a7', a8, a9, upd a10 x w, a11, a12, a13, a14, a15)) r (fun k hk => (sm k (fun e => xr (e ▸ hk))).1)
      have es : sr_seq a4 (upd a10 x w) a11 a12 (.branch x r l) = (sr_seq a4 a10 a11 a12 (.branch x l r)).reverse := by
        show sr_act (upd a10 x w x) (a11 x) (a12 x) (sr_seq a4 (upd a10 x w) a11 a12 r) ++ a4 x :: sr_act (upd a10 x w x) (a11 x) (a12 x) (sr_seq a4 (upd a10 x w) a11 a12 l) = (sr_act (a10 x) (a11 x) (a12 x) (sr_seq a4 a10 a11 a12 l) ++ a4 x :: sr_act (a10 x) (a11 x) (a12 x) (sr_seq a4 a10 a11 a12 r)).reverse
        rw [sl, sr, pk_us, sr_act_t _ hw, sr_act_t _ hw, List.reverse_append, List.reverse_cons, List.append_assoc]
        rfl
      refine H _ _ _ _ ⟨hx, pk_us, pk_us, hu, ?_, sr_ok_s r x or (fun k hk => sm k (fun e => xr (e ▸ hk))), sr_ok_s l x ol (fun k hk => sm k (fun e => xl (e ▸ hk)))⟩ es (fun k hk => ?_)
      · show sr_at _ x (sr_seq a4 (upd a10 x w) a11 a12 (.branch x r l))
        rw [es]
        refine ⟨?_, ?_, sr_mx_rev t3, sr_mn_rev t4, sr_bd_rev t5⟩
        · rw [List.length_reverse]; exact t1
        · rw [sr_sum_rev]; exact t2
      · have g := sm k (fun e => hk (List.mem_append_right _ (e ▸ List.mem_cons_self)))
        exact ⟨g.1, g.2.1, fun _ => g.2.2⟩
    show wpX_turnAll post (f1, f2, f3, f4, f5, a1, a2, a3, a4, a5, a6, a7, a8, a9, a10, a11, a12, a13, a14, a15) (nI x)
    unfold wpX_turnAll
    dsimp only
    refine br_f (nI_ne0 (by omega) (by omega)) ?_
    rw [sr_cl0 x49]
    refine ⟨vx, nm_r hl ⟨vx, vx, nm_r (by rw [hr]) ⟨vx, nm_e ⟨vx, vx, vx, vx, nm_e ⟨vx, br_c (fun g => ⟨vx, nm_e (fin _ 1 (Or.inl ⟨g, by decide⟩))⟩) (fun g => ⟨vx, nm_e (fin _ 0 (Or.inr ⟨g, rfl⟩))⟩)⟩⟩⟩⟩⟩
theorem sr_negateAll {post : St1 → Prop} {t : sr_T} {p : Nat} {f1 f2 f3 f4 f5 : Int32} {a1 a2 a3 a4 a5 a6 a7 a8 a9 a10 a11 a12 a13 a14 a15 : Nat → Int32} (ok : sr_ok (f1, f2, f3, f4, f5, a1, a2, a3, a4, a5, a6, a7, a8, a9, a10, a11, a12, a13, a14, a15) p t) (n : (sr_ids t).Nodup)
    (H : ∀ (a4' a6' a7' a8' a9' a11' a12' : Nat → Int32), sr_ok (f1, f2, f3, f4, f5, a1, a2, a3, a4', a5, a6', a7', a8', a9', a10, a11', a12', a13, a14, a15) p t → sr_seq a4' a10 a11' a12' t = (sr_seq a4 a10 a11 a12 t).map (fun y => -y) → sr_out (f1, f2, f3, f4, f5, a1, a2, a3, a4, a5, a6, a7, a8, a9, a10, a11, a12, a13, a14, a15) (f1, f2, f3, f4, f5, a1, a2, a3, a4', a5, a6', a7', a8', a9', a10, a11', a12', a13, a14, a15) (sr_ids t) → post (f1, f2, f3, f4, f5, a1, a2, a3, a4', a5, a6', a7', a8', a9', a10, a11', a12', a13, a14, a15)) :
    wpX_negateAll post (f1, f2, f3, f4, f5, a1, a2, a3, a4, a5, a6, a7, a8, a9, a10, a11, a12, a13, a14, a15) (nI (sr_rt t)) := by
  cases t with
  | leaf _ =>
    unfold wpX_negateAll
    dsimp only
    exact br_t nI_0 (H a4 a6 a7 a8 a9 a11 a12 trivial rfl (sr_out_r _ _))
  | branch x l r =>
    obtain ⟨hx, hl, hr, hu, ⟨t1, t2, t3, t4, t5⟩, ol, or⟩ := ok
    obtain ⟨xl, xr, nl, nr, nlr⟩ := sr_ndx n
    have x49 : x < 49 := by omega
    have vx := sr_vi x49
    have fin : ∀ (a7' : Nat → Int32) (w : Int32), ((a11 x = 0 ∧ ¬ w = 0) ∨ (¬ a11 x = 0 ∧ w = 0)) → post (f1, f2, f3, f4, f5, a1, a2, a3, upd a4 x (-(a4 x)), a5, upd a6 x (-(a6 x)), a7', upd a8 x (-(a9 x)), upd a9 x (-(a8 x)), a10, upd a11 x w, upd a12 x (-(a12 x)), a13, a14, a15) := by
      intro a7' w hw
      have sm : ∀ k, k ≠ x → sr_sm (f1, f2, f3, f4, f5, a1, a2, a3, a4, a5, a6, a7, a8, a9, a10, a11, a12, a13, a14, a15) (f1, f2, f3, f4, f5, a1, a2, a3, upd a4 x (-(a4 x)), a5, upd a6 x (-(a6 x)), a7', upd a8 x (-(a9 x)), upd a9 x (-(a8 x)), a10, upd a11 x w, upd a12 x (-(a12 x)), a13, a14, a15) k :=
        fun k hk => ⟨⟨pk_un hk, rfl, pk_un hk, pk_un hk⟩, ⟨rfl, pk_un hk, pk_un hk, pk_un hk⟩, ⟨rfl, rfl⟩, rfl⟩
      have sl : sr_seq (upd a4 x (-(a4 x))) a10 (upd a11 x w) (upd a12 x (-(a12 x))) l = sr_seq a4 a10 a11 a12 l := sr_seq_c (u := (f1, f2, f3, f4, f5, a1, a2, a3, a4, a5, a6, a7, a8, a9, a10, a11, a12, a13, a14, a15)) (u' := (f1, f2, f3, f4, f5, a1, a2, a3, upd a4 x (-(a4 x)), a5, upd a6 x (-(a6 x)), a7', upd a8 x (-(a9 x)), upd a9 x (-(a8 x)), a10, upd a11 x w, upd a12 x (-(a12 x)), a13, a14, a15)) l (fun k hk => (sm k (fun e => xl (e ▸ hk))).1)
      have sr : sr_seq (upd a4 x (-(a4 x))) a10 (upd a11 x w) (upd a12 x (-(a12 x))) r = sr_seq a4 a10 a11 a12 r := sr_seq_c (u := (f1, f2, f3, f4, f5, a1, a2, a3, a4, a5, a6, a7, a8, a9, a10, a11, a12, a13, a14, a15)) (u' := (f1, f2, f3, f4, f5, a1, a2, a3, upd a4 x (-(a4 x)), a5, upd a6 x (-(a6 x)), a7', upd a8 x (-(a9 x)), upd a9 x (-(a8 x)), a10, upd a11 x w, upd a12 x (-(a12 x)), a13, a14, a15)) r (fun k hk => (sm k (fun e => xr (e ▸ hk))).1)
      have es : sr_seq (upd a4 x (-(a4 x))) a10 (upd a11 x w) (upd a12 x (-(a12 x))) (.branch x l r) = (sr_seq a4 a10 a11 a12 (.branch x l r)).map (fun y => -y) := by
        show sr_act (a10 x) (upd a11 x w x) (upd a12 x (-(a12 x)) x) (sr_seq (upd a4 x (-(a4 x))) a10 (upd a11 x w) (upd a12 x (-(a12 x))) l) ++ upd a4 x (-(a4 x)) x :: sr_act (a10 x) (upd a11 x w x) (upd a12 x (-(a12 x)) x) (sr_seq (upd a4 x (-(a4 x))) a10 (upd a11 x w) (upd a12 x (-(a12 x))) r) = (sr_act (a10 x) (a11 x) (a12 x) (sr_seq a4 a10 a11 a12 l) ++ a4 x :: sr_act (a10 x) (a11 x) (a12 x) (sr_seq a4 a10 a11 a12 r)).map (fun y => -y)
        rw [sl, sr, pk_us, pk_us, pk_us, sr_act_m _ hw, sr_act_m _ hw, List.map_append, List.map_cons]
      refine H _ _ _ _ _ _ _ ⟨hx, hl, hr, hu, ?_, sr_ok_s l x ol (fun k hk => sm k (fun e => xl (e ▸ hk))), sr_ok_s r x or (fun k hk => sm k (fun e => xr (e ▸ hk)))⟩ es (fun k hk => ?_)
      · show sr_at _ x (sr_seq (upd a4 x (-(a4 x))) a10 (upd a11 x w) (upd a12 x (-(a12 x))) (.branch x l r))
        rw [es]
        refine ⟨?_, ?_, ?_, ?_, sr_bd_neg t5⟩
        · rw [List.length_map]; exact t1
        · show upd a6 x (-(a6 x)) x = _
          rw [pk_us, sr_sum_neg]
          exact congrArg (fun y => -y) t2
        · show sr_mx (upd a8 x (-(a9 x)) x) _
          rw [pk_us]
          exact sr_mx_neg t5 t4
        · show sr_mn (upd a9 x (-(a8 x)) x) _
          rw [pk_us]
          exact sr_mn_neg t5 t3
      · have g := sm k (fun e => hk (List.mem_append_right _ (e ▸ List.mem_cons_self)))
        exact ⟨g.1, g.2.1, fun _ => g.2.2⟩
    show wpX_negateAll post (f1, f2, f3, f4, f5, a1, a2, a3, a4, a5, a6, a7, a8, a9, a10, a11, a12, a13, a14, a15) (nI x)
    unfold wpX_negateAll
    dsimp only
    refine br_f (nI_ne0 (by omega) (by omega)) ?_
    rw [sr_cl0 x49]
    refine ⟨vx, vx, nm_e ⟨vx, vx, nm_e ⟨vx, vx, nm_e ⟨vx, nm_e ⟨vx, vx, nm_e ⟨vx, nm_e ⟨vx, vx, nm_e ⟨vx, br_c (fun g => ⟨vx, nm_e (fin _ 1 (Or.inl ⟨g, by decide⟩))⟩) (fun g => ⟨vx, nm_e (fin _ 0 (Or.inr ⟨g, rfl⟩))⟩)⟩⟩⟩⟩⟩⟩⟩⟩
theorem sr_addAll {post : St1 → Prop} {t : sr_T} {p : Nat} {d : Int32} {f1 f2 f3 f4 f5 : Int32} {a1 a2 a3 a4 a5 a6 a7 a8 a9 a10 a11 a12 a13 a14 a15 : Nat → Int32} (ok : sr_ok (f1, f2, f3, f4, f5, a1, a2, a3, a4, a5, a6, a7, a8, a9, a10, a11, a12, a13, a14, a15) p t) (n : (sr_ids t).Nodup) (bd : sr_bd ((sr_seq a4 a10 a11 a12 t).map (fun y => y + d)))
    (H : ∀ (a4' a6' a7' a8' a9' a12' : Nat → Int32), sr_ok (f1, f2, f3, f4, f5, a1, a2, a3, a4', a5, a6', a7', a8', a9', a10, a11, a12', a13, a14, a15) p t → sr_seq a4' a10 a11 a12' t = (sr_seq a4 a10 a11 a12 t).map (fun y => y + d) → sr_out (f1, f2, f3, f4, f5, a1, a2, a3, a4, a5, a6, a7, a8, a9, a10, a11, a12, a13, a14, a15) (f1, f2, f3, f4, f5, a1, a2, a3, a4', a5, a6', a7', a8', a9', a10, a11, a12', a13, a14, a15) (sr_ids t) → post (f1, f2, f3, f4, f5, a1, a2, a3, a4', a5, a6', a7', a8', a9', a10, a11, a12', a13, a14, a15)) :
    wpX_addAll post (f1, f2, f3, f4, f5, a1, a2, a3, a4, a5, a6, a7, a8, a9, a10, a11, a12, a13, a14, a15) (nI (sr_rt t)) d := by
  cases t with
  | leaf _ =>
    unfold wpX_addAll
    dsimp only
    exact br_t nI_0 (H a4 a6 a7 a8 a9 a12 trivial rfl (sr_out_r _ _))
  | branch x l r =>
    obtain ⟨hx, hl, hr, hu, ⟨t1, t2, t3, t4, t5⟩, ol, or⟩ := ok
    obtain ⟨xl, xr, nl, nr, nlr⟩ := sr_ndx n
    have x49 : x < 49 := by omega
    have vx := sr_vi x49
    have fin : ∀ (a7' : Nat → Int32), post (f1, f2, f3, f4, f5, a1, a2, a3, upd a4 x (a4 x + d), a5, upd a6 x (a6 x + d * a5 x), a7', upd a8 x (a8 x + d), upd a9 x (a9 x + d), a10, a11, upd a12 x (a12 x + d), a13, a14, a15) := by
      intro a7'
      have sm : ∀ k, k ≠ x → sr_sm (f1, f2, f3, f4, f5, a1, a2, a3, a4, a5, a6, a7, a8, a9, a10, a11, a12, a13, a14, a15) (f1, f2, f3, f4, f5, a1, a2, a3, upd a4 x (a4 x + d), a5, upd a6 x (a6 x + d * a5 x), a7', upd a8 x (a8 x + d), upd a9 x (a9 x + d), a10, a11, upd a12 x (a12 x + d), a13, a14, a15) k :=
        fun k hk => ⟨⟨pk_un hk, rfl, rfl, pk_un hk⟩, ⟨rfl, pk_un hk, pk_un hk, pk_un hk⟩, ⟨rfl, rfl⟩, rfl⟩
      have sl : sr_seq (upd a4 x (a4 x + d)) a10 a11 (upd a12 x (a12 x + d)) l = sr_seq a4 a10 a11 a12 l := sr_seq_c (u := (f1, f2, f3, f4, f5, a1, a2, a3, a4, a5, a6, a7, a8, a9, a10, a11, a12, a13, a14, a15)) (u' := (f1, f2, f3, f4, f5, a1, a2, a3, upd a4 x (a4 x + d), a5, upd a6 x (a6 x + d * a5 x), a7', upd a8 x (a8 x + d), upd a9 x (a9 x + d), a10, a11, upd a12 x (a12 x + d), a13, a14, a15)) l (fun k hk => (sm k (fun e => xl (e ▸ hk))).1)
      have sr : sr_seq (upd a4 x (a4 x + d)) a10 a11 (upd a12 x (a12 x + d)) r = sr_seq a4 a10 a11 a12 r := sr_seq_c (u := (f1, f2, f3, f4, f5, a1, a2, a3, a4, a5, a6, a7, a8, a9, a10, a11, a12, a13, a14, a15)) (u' := (f1, f2, f3, f4, f5, a1, a2, a3, upd a4 x (a4 x + d), a5, upd a6 x (a6 x + d * a5 x), a7', upd a8 x (a8 x + d), upd a9 x (a9 x + d), a10, a11, upd a12 x (a12 x + d), a13, a14, a15)) r (fun k hk => (sm k (fun e => xr (e ▸ hk))).1)
      have es : sr_seq (upd a4 x (a4 x + d)) a10 a11 (upd a12 x (a12 x + d)) (.branch x l r) = (sr_seq a4 a10 a11 a12 (.branch x l r)).map (fun y => y + d) := by
        show sr_act (a10 x) (a11 x) (upd a12 x (a12 x + d) x) (sr_seq (upd a4 x (a4 x + d)) a10 a11 (upd a12 x (a12 x + d)) l) ++ upd a4 x (a4 x + d) x :: sr_act (a10 x) (a11 x) (upd a12 x (a12 x + d) x) (sr_seq (upd a4 x (a4 x + d)) a10 a11 (upd a12 x (a12 x + d)) r) = (sr_act (a10 x) (a11 x) (a12 x) (sr_seq a4 a10 a11 a12 l) ++ a4 x :: sr_act (a10 x) (a11 x) (a12 x) (sr_seq a4 a10 a11 a12 r)).map (fun y => y + d)
        rw [sl, sr, pk_us, pk_us, sr_act_a, sr_act_a, List.map_append, List.map_cons]
      refine H _ _ _ _ _ _ ⟨hx, hl, hr, hu, ?_, sr_ok_s l x ol (fun k hk => sm k (fun e => xl (e ▸ hk))), sr_ok_s r x or (fun k hk => sm k (fun e => xr (e ▸ hk)))⟩ es (fun k hk => ?_)
      · show sr_at _ x (sr_seq (upd a4 x (a4 x + d)) a10 a11 (upd a12 x (a12 x + d)) (.branch x l r))
        rw [es]
        refine ⟨?_, ?_, ?_, ?_, bd⟩
        · rw [List.length_map]; exact t1
        · show upd a6 x (a6 x + d * a5 x) x = _
          have t1 : a5 x = nI (sr_seq a4 a10 a11 a12 (.branch x l r)).length := t1
          have t2 : a6 x = sr_sum (sr_seq a4 a10 a11 a12 (.branch x l r)) := t2
          rw [pk_us, sr_sum_add, t1, t2]
        · show sr_mx (upd a8 x (a8 x + d) x) _
          rw [pk_us]
          exact sr_mx_add t5 bd t3
        · show sr_mn (upd a9 x (a9 x + d) x) _
          rw [pk_us]
          exact sr_mn_add t5 bd t4
      · have g := sm k (fun e => hk (List.mem_append_right _ (e ▸ List.mem_cons_self)))
        exact ⟨g.1, g.2.1, fun _ => g.2.2⟩
    show wpX_addAll post (f1, f2, f3, f4, f5, a1, a2, a3, a4, a5, a6, a7, a8, a9, a10, a11, a12, a13, a14, a15) (nI x) d
    unfold wpX_addAll
    dsimp only
    refine br_f (nI_ne0 (by omega) (by omega)) ?_
    rw [sr_cl0 x49]
    refine ⟨vx, vx, nm_e ⟨vx, vx, vx, nm_e ⟨vx, vx, vx, by decide, vx, nm_e ⟨vx, vx, nm_e ⟨vx, vx, nm_e ⟨vx, vx, nm_e (fin _)⟩⟩⟩⟩⟩⟩
end
section
/-! push: what is still to be done below a node -/
theorem sr_xin (x : Nat) (l r : sr_T) : x ∈ sr_ids (.branch x l r) := List.mem_append_right _ List.mem_cons_self
theorem sr_lin {x k : Nat} {l r : sr_T} (h : k ∈ sr_ids l) : k ∈ sr_ids (.branch x l r) := List.mem_append_left _ h
theorem sr_rin {x k : Nat} {l r : sr_T} (h : k ∈ sr_ids r) : k ∈ sr_ids (.branch x l r) := List.mem_append_right _ (List.mem_cons_of_mem _ h)
theorem sr_push66 {post : St1 → Prop} {x p : Nat} {l r : sr_T} {f1 f2 f3 f4 f5 : Int32} {a1 a2 a3 a4 a5 a6 a7 a8 a9 a10 a11 a12 a13 a14 a15 : Nat → Int32} (ok : sr_ok (f1, f2, f3, f4, f5, a1, a2, a3, a4, a5, a6, a7, a8, a9, a10, a11, a12, a13, a14, a15) p (.branch x l r)) (n : (sr_ids (.branch x l r)).Nodup) (z1 : a10 x = 0) (z2 : a11 x = 0)
    (H : ∀ (a4' a6' a7' a8' a9' a12' : Nat → Int32), sr_ok (f1, f2, f3, f4, f5, a1, a2, a3, a4', a5, a6', a7', a8', a9', a10, a11, a12', a13, a14, a15) p (.branch x l r) → a12' x = 0 → sr_seq a4' a10 a11 a12' (.branch x l r) = sr_seq a4 a10 a11 a12 (.branch x l r) → sr_out (f1, f2, f3, f4, f5, a1, a2, a3, a4, a5, a6, a7, a8, a9, a10, a11, a12, a13, a14, a15) (f1, f2, f3, f4, f5, a1, a2, a3, a4', a5, a6', a7', a8', a9', a10, a11, a12', a13, a14, a15) (sr_ids (.branch x l r)) → post (f1, f2, f3, f4, f5, a1, a2, a3, a4', a5, a6', a7', a8', a9', a10, a11, a12', a13, a14, a15)) :
    wX_push_66 post (nI x) (nI (sr_rt l)) (nI (sr_rt r)) f1 f2 f3 f4 f5 a1 a2 a3 a4 a5 a6 a7 a8 a9 a10 a11 a12 a13 a14 a15 := by
  obtain ⟨hx, hl, hr, hu, ha, ol, or⟩ := id ok
  obtain ⟨xl, xr, nl, nr, nlr⟩ := sr_ndx n
  have x49 : x < 49 := by omega
  have vx := sr_vi x49
  have bd := ha.2.2.2.2
  have es : sr_seq a4 a10 a11 a12 (.branch x l r) = sr_act 0 0 (a12 x) (sr_seq a4 a10 a11 a12 l) ++ a4 x :: sr_act 0 0 (a12 x) (sr_seq a4 a10 a11 a12 r) := by
    show sr_act (a10 x) (a11 x) (a12 x) (sr_seq a4 a10 a11 a12 l) ++ a4 x :: sr_act (a10 x) (a11 x) (a12 x) (sr_seq a4 a10 a11 a12 r) = _
    rw [z1, z2]
  have bd' : sr_bd (sr_act 0 0 (a12 x) (sr_seq a4 a10 a11 a12 l) ++ a4 x :: sr_act 0 0 (a12 x) (sr_seq a4 a10 a11 a12 r)) := by rw [← es]; exact bd
  obtain ⟨bl, bc⟩ := sr_bd_app.mp bd'
  obtain ⟨_, br⟩ := sr_bd_cons.mp bc
  rw [sr_act_A'] at bl br
  unfold wX_push_66
  rw [sr_cl0 x49]
  refine ⟨vx, br_c (fun g => H a4 a6 a7 a8 a9 a12 ok g rfl (sr_out_r _ _)) (fun g => ⟨vx, ?_⟩)⟩
  refine sr_addAll (t := l) ol nl bl (fun a4' a6' a7' a8' a9' a12' o1 s1 u1 => ?_)
  dsimp only
  have e12 : a12' x = a12 x := (u1 x xl).1.2.2.2
  have e4 : a4' x = a4 x := (u1 x xl).1.1
  obtain ⟨orr, sr⟩ := sr_keep or u1 (fun k hk hk' => nlr k hk' hk)
  have sr : sr_seq a4' a10 a11 a12' r = sr_seq a4 a10 a11 a12 r := sr
  rw [e12]
  refine ⟨vx, sr_addAll (t := r) orr nr (by rw [sr]; exact br) (fun a4q a6q a7q a8q a9q a12q o2 s2 u2 => ?_)⟩
  dsimp only
  refine ⟨vx, nm_e ?_⟩
  obtain ⟨oll, sl⟩ := sr_keep o1 u2 nlr
  have sl : sr_seq a4q a10 a11 a12q l = sr_seq a4' a10 a11 a12' l := sl
  have e4q : a4q x = a4' x := (u2 x xr).1.1
  have sm : ∀ k, k ≠ x → sr_sm (f1, f2, f3, f4, f5, a1, a2, a3, a4q, a5, a6q, a7q, a8q, a9q, a10, a11, a12q, a13, a14, a15) (f1, f2, f3, f4, f5, a1, a2, a3, a4q, a5, a6q, a7q, a8q, a9q, a10, a11, upd a12q x 0, a13, a14, a15) k := fun k hk => ⟨⟨rfl, rfl, rfl, pk_un hk⟩, ⟨rfl, rfl, rfl, rfl⟩, ⟨rfl, rfl⟩, rfl⟩
  have sml : ∀ k, k ∈ sr_ids l → sr_sm (f1, f2, f3, f4, f5, a1, a2, a3, a4q, a5, a6q, a7q, a8q, a9q, a10, a11, a12q, a13, a14, a15) (f1, f2, f3, f4, f5, a1, a2, a3, a4q, a5, a6q, a7q, a8q, a9q, a10, a11, upd a12q x 0, a13, a14, a15) k := fun k hk => sm k (fun e => xl (e ▸ hk))
  have smr : ∀ k, k ∈ sr_ids r → sr_sm (f1, f2, f3, f4, f5, a1, a2, a3, a4q, a5, a6q, a7q, a8q, a9q, a10, a11, a12q, a13, a14, a15) (f1, f2, f3, f4, f5, a1, a2, a3, a4q, a5, a6q, a7q, a8q, a9q, a10, a11, upd a12q x 0, a13, a14, a15) k := fun k hk => sm k (fun e => xr (e ▸ hk))
  have sl' : sr_seq a4q a10 a11 (upd a12q x 0) l = sr_seq a4q a10 a11 a12q l := sr_seq_c (u := (f1, f2, f3, f4, f5, a1, a2, a3, a4q, a5, a6q, a7q, a8q, a9q, a10, a11, a12q, a13, a14, a15)) (u' := (f1, f2, f3, f4, f5, a1, a2, a3, a4q, a5, a6q, a7q, a8q, a9q, a10, a11, upd a12q x 0, a13, a14, a15)) l (fun k hk => (sml k hk).1)
  have sr' : sr_seq a4q a10 a11 (upd a12q x 0) r = sr_seq a4q a10 a11 a12q r := sr_seq_c (u := (f1, f2, f3, f4, f5, a1, a2, a3, a4q, a5, a6q, a7q, a8q, a9q, a10, a11, a12q, a13, a14, a15)) (u' := (f1, f2, f3, f4, f5, a1, a2, a3, a4q, a5, a6q, a7q, a8q, a9q, a10, a11, upd a12q x 0, a13, a14, a15)) r (fun k hk => (smr k hk).1)
  have ou : sr_out (f1, f2, f3, f4, f5, a1, a2, a3, a4, a5, a6, a7, a8, a9, a10, a11, a12, a13, a14, a15) (f1, f2, f3, f4, f5, a1, a2, a3, a4q, a5, a6q, a7q, a8q, a9q, a10, a11, upd a12q x 0, a13, a14, a15) (sr_ids (.branch x l r)) := by
    refine sr_out_t (sr_out_w u1 (fun k hk => sr_lin hk)) (sr_out_t (sr_out_w u2 (fun k hk => sr_rin hk)) (fun k hk => ?_))
    have g := sm k (fun e => hk (e ▸ sr_xin x l r))
    exact ⟨g.1, g.2.1, fun _ => g.2.2⟩
  have rp := sr_rep (u' := (f1, f2, f3, f4, f5, a1, a2, a3, a4q, a5, a6q, a7q, a8q, a9q, a10, a11, upd a12q x 0, a13, a14, a15)) (l' := l) (r' := r) ok (sr_ok_s l x oll sml) (sr_ok_s r x o2 smr) rfl rfl ⟨rfl, rfl⟩ rfl
    (sr_eB_t (u1 x xl).2.1 (u2 x xr).2.1) (e4q.trans e4)
    (by
      show sr_act (a10 x) (a11 x) (upd a12q x 0 x) (sr_seq a4q a10 a11 (upd a12q x 0) l) = sr_act (a10 x) (a11 x) (a12 x) (sr_seq a4 a10 a11 a12 l)
      rw [sl', sl, s1, pk_us, z1, z2, sr_act_A])
    (by
      show sr_act (a10 x) (a11 x) (upd a12q x 0 x) (sr_seq a4q a10 a11 (upd a12q x 0) r) = sr_act (a10 x) (a11 x) (a12 x) (sr_seq a4 a10 a11 a12 r)
      rw [sr', s2, sr, pk_us, z1, z2, sr_act_A])
  exact H _ _ _ _ _ _ rp.1 pk_us rp.2 ou
theorem sr_push40 {post : St1 → Prop} {x p : Nat} {l r : sr_T} {f1 f2 f3 f4 f5 : Int32} {a1 a2 a3 a4 a5 a6 a7 a8 a9 a10 a11 a12 a13 a14 a15 : Nat → Int32} (ok : sr_ok (f1, f2, f3, f4, f5, a1, a2, a3, a4, a5, a6, a7, a8, a9, a10, a11, a12, a13, a14, a15) p (.branch x l r)) (n : (sr_ids (.branch x l r)).Nodup) (z1 : a10 x = 0)
    (H : ∀ (a4' a6' a7' a8' a9' a11' a12' : Nat → Int32), sr_ok (f1, f2, f3, f4, f5, a1, a2, a3, a4', a5, a6', a7', a8', a9', a10, a11', a12', a13, a14, a15) p (.branch x l r) → a11' x = 0 → a12' x = 0 → sr_seq a4' a10 a11' a12' (.branch x l r) = sr_seq a4 a10 a11 a12 (.branch x l r) → sr_out (f1, f2, f3, f4, f5, a1, a2, a3, a4, a5, a6, a7, a8, a9, a10, a11, a12, a13, a14, a15) (f1, f2, f3, f4, f5, a1, a2, a3, a4', a5, a6', a7', a8', a9', a10, a11', a12', a13, a14, a15) (sr_ids (.branch x l r)) → post (f1, f2, f3, f4, f5, a1, a2, a3, a4', a5, a6', a7', a8', a9', a10, a11', a12', a13, a14, a15)) :
    wX_push_40 post (nI x) (nI (sr_rt l)) (nI (sr_rt r)) f1 f2 f3 f4 f5 a1 a2 a3 a4 a5 a6 a7 a8 a9 a10 a11 a12 a13 a14 a15 := by
  obtain ⟨hx, hl, hr, hu, ha, ol, or⟩ := id ok
  obtain ⟨xl, xr, nl, nr, nlr⟩ := sr_ndx n
  have x49 : x < 49 := by omega
  have vx := sr_vi x49
  unfold wX_push_40
  rw [sr_cl0 x49]
  refine ⟨vx, br_c (fun g => sr_push66 ok n z1 g (fun a4' a6' a7' a8' a9' a12' h1 h2 h3 h4 => H _ _ _ _ _ _ _ h1 g h2 h3 h4)) (fun g => ?_)⟩
  refine sr_negateAll (t := l) ol nl (fun a4' a6' a7' a8' a9' a11' a12' o1 s1 u1 => ?_)
  dsimp only
  have e12 : a12' x = a12 x := (u1 x xl).1.2.2.2
  have e4 : a4' x = a4 x := (u1 x xl).1.1
  obtain ⟨orr, sr⟩ := sr_keep or u1 (fun k hk hk' => nlr k hk' hk)
  have sr : sr_seq a4' a10 a11' a12' r = sr_seq a4 a10 a11 a12 r := sr
  refine sr_negateAll (t := r) orr nr (fun a4q a6q a7q a8q a9q a11q a12q o2 s2 u2 => ?_)
  dsimp only
  refine ⟨vx, nm_e ?_⟩
  obtain ⟨oll, sl⟩ := sr_keep o1 u2 nlr
  have sl : sr_seq a4q a10 a11q a12q l = sr_seq a4' a10 a11' a12' l := sl
  have e4q : a4q x = a4' x := (u2 x xr).1.1
  have e12q : a12q x = a12' x := (u2 x xr).1.2.2.2
  have sm : ∀ k, k ≠ x → sr_sm (f1, f2, f3, f4, f5, a1, a2, a3, a4q, a5, a6q, a7q, a8q, a9q, a10, a11q, a12q, a13, a14, a15) (f1, f2, f3, f4, f5, a1, a2, a3, a4q, a5, a6q, a7q, a8q, a9q, a10, upd a11q x 0, a12q, a13, a14, a15) k := fun k hk => ⟨⟨rfl, rfl, pk_un hk, rfl⟩, ⟨rfl, rfl, rfl, rfl⟩, ⟨rfl, rfl⟩, rfl⟩
  have sml : ∀ k, k ∈ sr_ids l → sr_sm (f1, f2, f3, f4, f5, a1, a2, a3, a4q, a5, a6q, a7q, a8q, a9q, a10, a11q, a12q, a13, a14, a15) (f1, f2, f3, f4, f5, a1, a2, a3, a4q, a5, a6q, a7q, a8q, a9q, a10, upd a11q x 0, a12q, a13, a14, a15) k := fun k hk => sm k (fun e => xl (e ▸ hk))
  have smr : ∀ k, k ∈ sr_ids r → sr_sm (f1, f2, f3, f4, f5, a1, a2, a3, a4q, a5, a6q, a7q, a8q, a9q, a10, a11q, a12q, a13, a14, a15) (f1, f2, f3, f4, f5, a1, a2, a3, a4q, a5, a6q, a7q, a8q, a9q, a10, upd a11q x 0, a12q, a13, a14, a15) k := fun k hk => sm k (fun e => xr (e ▸ hk))
  have sl' : sr_seq a4q a10 (upd a11q x 0) a12q l = sr_seq a4q a10 a11q a12q l := sr_seq_c (u := (f1, f2, f3, f4, f5, a1, a2, a3, a4q, a5, a6q, a7q, a8q, a9q, a10, a11q, a12q, a13, a14, a15)) (u' := (f1, f2, f3, f4, f5, a1, a2, a3, a4q, a5, a6q, a7q, a8q, a9q, a10, upd a11q x 0, a12q, a13, a14, a15)) l (fun k hk => (sml k hk).1)
  have sr' : sr_seq a4q a10 (upd a11q x 0) a12q r = sr_seq a4q a10 a11q a12q r := sr_seq_c (u := (f1, f2, f3, f4, f5, a1, a2, a3, a4q, a5, a6q, a7q, a8q, a9q, a10, a11q, a12q, a13, a14, a15)) (u' := (f1, f2, f3, f4, f5, a1, a2, a3, a4q, a5, a6q, a7q, a8q, a9q, a10, upd a11q x 0, a12q, a13, a14, a15)) r (fun k hk => (smr k hk).1)
  have ou : sr_out (f1, f2, f3, f4, f5, a1, a2, a3, a4, a5, a6, a7, a8, a9, a10, a11, a12, a13, a14, a15) (f1, f2, f3, f4, f5, a1, a2, a3, a4q, a5, a6q, a7q, a8q, a9q, a10, upd a11q x 0, a12q, a13, a14, a15) (sr_ids (.branch x l r)) := by
    refine sr_out_t (sr_out_w u1 (fun k hk => sr_lin hk)) (sr_out_t (sr_out_w u2 (fun k hk => sr_rin hk)) (fun k hk => ?_))
    have g := sm k (fun e => hk (e ▸ sr_xin x l r))
    exact ⟨g.1, g.2.1, fun _ => g.2.2⟩
  have rp := sr_rep (u' := (f1, f2, f3, f4, f5, a1, a2, a3, a4q, a5, a6q, a7q, a8q, a9q, a10, upd a11q x 0, a12q, a13, a14, a15)) (l' := l) (r' := r) ok (sr_ok_s l x oll sml) (sr_ok_s r x o2 smr) rfl rfl ⟨rfl, rfl⟩ rfl
    (sr_eB_t (u1 x xl).2.1 (u2 x xr).2.1) (e4q.trans e4)
    (by
      show sr_act (a10 x) (upd a11q x 0 x) (a12q x) (sr_seq a4q a10 (upd a11q x 0) a12q l) = sr_act (a10 x) (a11 x) (a12 x) (sr_seq a4 a10 a11 a12 l)
      rw [sl', sl, s1, pk_us, z1, e12q, e12, sr_act_M _ g])
    (by
      show sr_act (a10 x) (upd a11q x 0 x) (a12q x) (sr_seq a4q a10 (upd a11q x 0) a12q r) = sr_act (a10 x) (a11 x) (a12 x) (sr_seq a4 a10 a11 a12 r)
      rw [sr', s2, sr, pk_us, z1, e12q, e12, sr_act_M _ g])
  have zq : upd a11q x 0 x = 0 := pk_us
  refine sr_push66 rp.1 n z1 zq (fun a4w a6w a7w a8w a9w a12w h1 h2 h3 h4 => H _ _ _ _ _ _ _ h1 zq h2 (h3.trans rp.2) (sr_out_t ou h4))
theorem sr_push {post : St1 → Prop} {x p : Nat} {l r : sr_T} {f1 f2 f3 f4 f5 : Int32} {a1 a2 a3 a4 a5 a6 a7 a8 a9 a10 a11 a12 a13 a14 a15 : Nat → Int32} (ok : sr_ok (f1, f2, f3, f4, f5, a1, a2, a3, a4, a5, a6, a7, a8, a9, a10, a11, a12, a13, a14, a15) p (.branch x l r)) (n : (sr_ids (.branch x l r)).Nodup)
    (H : ∀ (a1' a2' a4' a6' a7' a8' a9' a10' a11' a12' : Nat → Int32) (l' r' : sr_T), sr_ok (f1, f2, f3, f4, f5, a1', a2', a3, a4', a5, a6', a7', a8', a9', a10', a11', a12', a13, a14, a15) p (.branch x l' r') → a10' x = 0 → a11' x = 0 → a12' x = 0 → sr_seq a4' a10' a11' a12' (.branch x l' r') = sr_seq a4 a10 a11 a12 (.branch x l r) → (sr_ids l').Perm (sr_ids l) → (sr_ids r').Perm (sr_ids r) → sr_out (f1, f2, f3, f4, f5, a1, a2, a3, a4, a5, a6, a7, a8, a9, a10, a11, a12, a13, a14, a15) (f1, f2, f3, f4, f5, a1', a2', a3, a4', a5, a6', a7', a8', a9', a10', a11', a12', a13, a14, a15) (sr_ids (.branch x l r)) → post (f1, f2, f3, f4, f5, a1', a2', a3, a4', a5, a6', a7', a8', a9', a10', a11', a12', a13, a14, a15)) :
    wpX_push post (f1, f2, f3, f4, f5, a1, a2, a3, a4, a5, a6, a7, a8, a9, a10, a11, a12, a13, a14, a15) (nI x) := by
  obtain ⟨hx, hl, hr, hu, ha, ol, or⟩ := id ok
  obtain ⟨xl, xr, nl, nr, nlr⟩ := sr_ndx n
  have x49 : x < 49 := by omega
  have vx := sr_vi x49
  unfold wpX_push
  dsimp only
  rw [sr_cl0 x49]
  refine ⟨vx, nm_r hl ⟨vx, nm_r hr ⟨vx, br_c (fun g => sr_push40 ok n g (fun a4' a6' a7' a8' a9' a11' a12' h1 h2 h3 h4 h5 => H _ _ _ _ _ _ _ _ _ _ l r h1 g h2 h3 h4 (List.Perm.refl _) (List.Perm.refl _) h5)) (fun g => ?_)⟩⟩⟩
  refine sr_turnAll (t := l) ol nl (fun a1' a2' a7' a10' o1 s1 u1 => ?_)
  dsimp only
  obtain ⟨orr, sr⟩ := sr_keep or u1 (fun k hk hk' => nlr k hk' hk)
  have sr : sr_seq a4 a10' a11 a12 r = sr_seq a4 a10 a11 a12 r := sr
  refine sr_turnAll (t := r) orr nr (fun a1q a2q a7q a10q o2 s2 u2 => ?_)
  dsimp only
  refine ⟨vx, nm_e ?_⟩
  have pl := sr_mir_ids l
  have pr := sr_mir_ids r
  obtain ⟨oll, sl⟩ := sr_keep o1 u2 (fun k hk => nlr k (pl.mem_iff.mp hk))
  have sl : sr_seq a4 a10q a11 a12 (sr_mir l) = sr_seq a4 a10' a11 a12 (sr_mir l) := sl
  have sm : ∀ k, k ≠ x → sr_sm (f1, f2, f3, f4, f5, a1q, a2q, a3, a4, a5, a6, a7q, a8, a9, a10q, a11, a12, a13, a14, a15) (f1, f2, f3, f4, f5, a1q, a2q, a3, a4, a5, a6, a7q, a8, a9, upd a10q x 0, a11, a12, a13, a14, a15) k := fun k hk => ⟨⟨rfl, pk_un hk, rfl, rfl⟩, ⟨rfl, rfl, rfl, rfl⟩, ⟨rfl, rfl⟩, rfl⟩
  have sml : ∀ k, k ∈ sr_ids (sr_mir l) → sr_sm (f1, f2, f3, f4, f5, a1q, a2q, a3, a4, a5, a6, a7q, a8, a9, a10q, a11, a12, a13, a14, a15) (f1, f2, f3, f4, f5, a1q, a2q, a3, a4, a5, a6, a7q, a8, a9, upd a10q x 0, a11, a12, a13, a14, a15) k := fun k hk => sm k (fun e => xl (e ▸ pl.mem_iff.mp hk))
  have smr : ∀ k, k ∈ sr_ids (sr_mir r) → sr_sm (f1, f2, f3, f4, f5, a1q, a2q, a3, a4, a5, a6, a7q, a8, a9, a10q, a11, a12, a13, a14, a15) (f1, f2, f3, f4, f5, a1q, a2q, a3, a4, a5, a6, a7q, a8, a9, upd a10q x 0, a11, a12, a13, a14, a15) k := fun k hk => sm k (fun e => xr (e ▸ pr.mem_iff.mp hk))
  have sl' : sr_seq a4 (upd a10q x 0) a11 a12 (sr_mir l) = sr_seq a4 a10q a11 a12 (sr_mir l) := sr_seq_c (u := (f1, f2, f3, f4, f5, a1q, a2q, a3, a4, a5, a6, a7q, a8, a9, a10q, a11, a12, a13, a14, a15)) (u' := (f1, f2, f3, f4, f5, a1q, a2q, a3, a4, a5, a6, a7q, a8, a9, upd a10q x 0, a11, a12, a13, a14, a15)) (sr_mir l) (fun k hk => (sml k hk).1)
  have sr' : sr_seq a4 (upd a10q x 0) a11 a12 (sr_mir r) = sr_seq a4 a10q a11 a12 (sr_mir r) := sr_seq_c (u := (f1, f2, f3, f4, f5, a1q, a2q, a3, a4, a5, a6, a7q, a8, a9, a10q, a11, a12, a13, a14, a15)) (u' := (f1, f2, f3, f4, f5, a1q, a2q, a3, a4, a5, a6, a7q, a8, a9, upd a10q x 0, a11, a12, a13, a14, a15)) (sr_mir r) (fun k hk => (smr k hk).1)
  have ou : sr_out (f1, f2, f3, f4, f5, a1, a2, a3, a4, a5, a6, a7, a8, a9, a10, a11, a12, a13, a14, a15) (f1, f2, f3, f4, f5, a1q, a2q, a3, a4, a5, a6, a7q, a8, a9, upd a10q x 0, a11, a12, a13, a14, a15) (sr_ids (.branch x l r)) := by
    refine sr_out_t (sr_out_w u1 (fun k hk => sr_lin hk)) (sr_out_t (sr_out_w u2 (fun k hk => sr_rin hk)) (fun k hk => ?_))
    have g := sm k (fun e => hk (e ▸ sr_xin x l r))
    exact ⟨g.1, g.2.1, fun _ => g.2.2⟩
  have x0 : x ≠ 0 := by omega
  have rp := sr_rep (u' := (f1, f2, f3, f4, f5, a1q, a2q, a3, a4, a5, a6, a7q, a8, a9, upd a10q x 0, a11, a12, a13, a14, a15)) (l' := sr_mir l) (r' := sr_mir r) ok (sr_ok_s _ x oll sml) (sr_ok_s _ x o2 smr) (sr_mir_rt l) (sr_mir_rt r) (sr_eL_t ((u1 x xl).2.2 x0).1 ((u2 x xr).2.2 x0).1) rfl
    ⟨rfl, rfl, rfl, rfl⟩ rfl
    (by
      show sr_act (upd a10q x 0 x) (a11 x) (a12 x) (sr_seq a4 (upd a10q x 0) a11 a12 (sr_mir l)) = sr_act (a10 x) (a11 x) (a12 x) (sr_seq a4 a10 a11 a12 l)
      rw [sl', sl, s1, pk_us, sr_act_T _ g])
    (by
      show sr_act (upd a10q x 0 x) (a11 x) (a12 x) (sr_seq a4 (upd a10q x 0) a11 a12 (sr_mir r)) = sr_act (a10 x) (a11 x) (a12 x) (sr_seq a4 a10 a11 a12 r)
      rw [sr', s2, sr, pk_us, sr_act_T _ g])
  have zq : upd a10q x 0 x = 0 := pk_us
  have n' : (sr_ids (.branch x (sr_mir l) (sr_mir r))).Nodup := by
    refine List.Perm.nodup ?_ n
    exact List.Perm.append pl.symm (pr.symm.cons x)
  have ou' : ∀ k, k ∈ sr_ids (.branch x (sr_mir l) (sr_mir r)) → k ∈ sr_ids (.branch x l r) := fun k hk => (List.Perm.append pl (pr.cons x)).mem_iff.mp hk
  have go : wX_push_40 post (nI x) (nI (sr_rt (sr_mir l))) (nI (sr_rt (sr_mir r))) f1 f2 f3 f4 f5 a1q a2q a3 a4 a5 a6 a7q a8 a9 (upd a10q x 0) a11 a12 a13 a14 a15 :=
    sr_push40 rp.1 n' zq (fun a4w a6w a7w a8w a9w a11w a12w h1 h2 h3 h4 h5 => H _ _ _ _ _ _ _ _ _ _ (sr_mir l) (sr_mir r) h1 zq h2 h3 (h4.trans rp.2) pl pr (sr_out_t ou (sr_out_w h5 ou')))
  rw [sr_mir_rt, sr_mir_rt] at go
  exact go
end
section
/-! lift and splay -/
theorem sr_nd5 {x p : Nat} {A B O C : List Nat} (n : ((A ++ p :: B) ++ (x :: (O ++ C))).Nodup) :
    (p ∉ A ∧ p ∉ B ∧ p ∉ O ∧ p ∉ C) ∧ (x ∉ A ∧ x ∉ B ∧ x ∉ O ∧ x ∉ C ∧ x ≠ p) ∧ (A.Nodup ∧ B.Nodup ∧ O.Nodup ∧ C.Nodup) ∧ (∀ k, k ∈ A → k ∉ B ∧ k ∉ O ∧ k ∉ C) ∧ (∀ k, k ∈ B → k ∉ O ∧ k ∉ C) ∧ (∀ k, k ∈ O → k ∉ C) := by
  simp only [List.nodup_append, List.nodup_cons, List.mem_append, List.mem_cons] at n
  grind
theorem sr_lift108 {post : St1 → Prop} {x p : Nat} {o l2 r2 : sr_T} {c : sr_C} {e : Bool} {f1 f2 f3 f4 f5 : Int32} {a1 a2 a3 a4 a5 a6 a7 a8 a9 a10 a11 a12 a13 a14 a15 : Nat → Int32} (hb : sr_b0 (f1, f2, f3, f4, f5, a1, a2, a3, a4, a5, a6, a7, a8, a9, a10, a11, a12, a13, a14, a15)) (hx : 1 ≤ x ∧ x ≤ 48) (hp : 1 ≤ p ∧ p ≤ 48)
    (zx1 : a10 x = 0) (zx2 : a11 x = 0) (zx3 : a12 x = 0) (zp1 : a10 p = 0) (zp2 : a11 p = 0) (zp3 : a12 p = 0)
    (pl : a1 p = nI (sr_rt l2)) (pr : a2 p = nI (sr_rt r2)) (pu : a3 p = nI x) (xl : a1 x = nI (if e then p else sr_rt o)) (xr : a2 x = nI (if e then sr_rt o else p)) (xu : a3 x = nI (sr_par c))
    (o1 : sr_ok (f1, f2, f3, f4, f5, a1, a2, a3, a4, a5, a6, a7, a8, a9, a10, a11, a12, a13, a14, a15) p l2) (o2 : sr_ok (f1, f2, f3, f4, f5, a1, a2, a3, a4, a5, a6, a7, a8, a9, a10, a11, a12, a13, a14, a15) p r2) (o3 : sr_ok (f1, f2, f3, f4, f5, a1, a2, a3, a4, a5, a6, a7, a8, a9, a10, a11, a12, a13, a14, a15) x o) (hvx : sr_bv (a4 x)) (hvp : sr_bv (a4 p))
    (hc : sr_cok (f1, f2, f3, f4, f5, a1, a2, a3, a4, a5, a6, a7, a8, a9, a10, a11, a12, a13, a14, a15) c x (sr_seq a4 a10 a11 a12 (sr_plug e x o (.branch p l2 r2)))) (n : (sr_ids (sr_plug e x o (.branch p l2 r2)) ++ sr_cid c).Nodup)
    (H : ∀ (a3' a5' a6' a7' a8' a9' : Nat → Int32), sr_Z (f1, f2, f3, f4, f5, a1, a2, a3', a4, a5', a6', a7', a8', a9', a10, a11, a12, a13, a14, a15) c (sr_plug e x o (.branch p l2 r2)) → (∀ k, k ≠ x → k ≠ p → k ≠ 0 → sr_sm (f1, f2, f3, f4, f5, a1, a2, a3, a4, a5, a6, a7, a8, a9, a10, a11, a12, a13, a14, a15) (f1, f2, f3, f4, f5, a1, a2, a3', a4, a5', a6', a7', a8', a9', a10, a11, a12, a13, a14, a15) k) → sr_eB (f1, f2, f3, f4, f5, a1, a2, a3, a4, a5, a6, a7, a8, a9, a10, a11, a12, a13, a14, a15) (f1, f2, f3, f4, f5, a1, a2, a3', a4, a5', a6', a7', a8', a9', a10, a11, a12, a13, a14, a15) 0 → post (f1, f2, f3, f4, f5, a1, a2, a3', a4, a5', a6', a7', a8', a9', a10, a11, a12, a13, a14, a15)) :
    wX_lift_108 post (nI x) (nI p) f1 f2 f3 f4 f5 a1 a2 a3 a4 a5 a6 a7 a8 a9 a10 a11 a12 a13 a14 a15 := by
  have n' : ((sr_ids l2 ++ p :: sr_ids r2) ++ (x :: (sr_ids o ++ sr_cid c))).Nodup := by
    refine List.Perm.nodup ?_ n
    refine ((sr_plug_ids e x o (.branch p l2 r2)).append_right (sr_cid c)).trans ?_
    rw [List.append_assoc, List.cons_append]
    exact List.Perm.refl _
  obtain ⟨⟨pA, pB, pO, pC⟩, ⟨xA, xB, xO, xC, xp⟩, _, dA, dB, dO⟩ := sr_nd5 n'
  have x0 : x ≠ 0 := by omega
  have p0 : p ≠ 0 := by omega
  have sm0 : ∀ k, k ≠ 0 → sr_sm (f1, f2, f3, f4, f5, a1, a2, a3, a4, a5, a6, a7, a8, a9, a10, a11, a12, a13, a14, a15) (f1, f2, f3, f4, f5, a1, a2, upd a3 0 0, a4, a5, a6, a7, a8, a9, a10, a11, a12, a13, a14, a15) k := fun k hk => ⟨sr_eF_r (f1, f2, f3, f4, f5, a1, a2, a3, a4, a5, a6, a7, a8, a9, a10, a11, a12, a13, a14, a15) k, sr_eB_r (f1, f2, f3, f4, f5, a1, a2, a3, a4, a5, a6, a7, a8, a9, a10, a11, a12, a13, a14, a15) k, sr_eL_r (f1, f2, f3, f4, f5, a1, a2, a3, a4, a5, a6, a7, a8, a9, a10, a11, a12, a13, a14, a15) k, pk_un hk⟩
  have nz : ∀ {q : Nat} {t : sr_T}, sr_ok (f1, f2, f3, f4, f5, a1, a2, a3, a4, a5, a6, a7, a8, a9, a10, a11, a12, a13, a14, a15) q t → ∀ k, k ∈ sr_ids t → k ≠ 0 := fun h k hk g => sr_no0 h (g ▸ hk)
  unfold wX_lift_108
  refine nm_e (sr_pullT (q := x) (l := l2) (r := r2) hb hp pl pr ?_ zp1 zp2 zp3 (sr_ok_s _ _ o1 (fun k hk => sm0 k (nz o1 k hk))) (sr_ok_s _ _ o2 (fun k hk => sm0 k (nz o2 k hk))) pA pB hvp (fun a5' a6' a7' a8' a9' op eB1 => ?_))
  · show upd a3 0 0 p = nI x
    rw [pk_un p0]; exact pu
  dsimp only
  have sm1 : ∀ k, k ≠ 0 → k ≠ p → sr_sm (f1, f2, f3, f4, f5, a1, a2, a3, a4, a5, a6, a7, a8, a9, a10, a11, a12, a13, a14, a15) (f1, f2, f3, f4, f5, a1, a2, upd a3 0 0, a4, a5', a6', a7', a8', a9', a10, a11, a12, a13, a14, a15) k := fun k hk hk' => ⟨sr_eF_r (f1, f2, f3, f4, f5, a1, a2, a3, a4, a5, a6, a7, a8, a9, a10, a11, a12, a13, a14, a15) k, eB1 k hk', sr_eL_r (f1, f2, f3, f4, f5, a1, a2, a3, a4, a5, a6, a7, a8, a9, a10, a11, a12, a13, a14, a15) k, pk_un hk⟩
  have hb1 : sr_b0 (f1, f2, f3, f4, f5, a1, a2, upd a3 0 0, a4, a5', a6', a7', a8', a9', a10, a11, a12, a13, a14, a15) := by
    obtain ⟨b1, b2, b3, b4⟩ := hb
    obtain ⟨g1, g2, g3, g4⟩ := eB1 0 (fun z => p0 z.symm)
    exact ⟨g1.trans b1, g2.trans b2, g3.trans b3, g4.trans b4⟩
  have oo : sr_ok (f1, f2, f3, f4, f5, a1, a2, upd a3 0 0, a4, a5', a6', a7', a8', a9', a10, a11, a12, a13, a14, a15) x o := sr_ok_s _ _ o3 (fun k hk => sm1 k (nz o3 k hk) (fun z => pO (z ▸ hk)))
  have xP : x ∉ sr_ids (.branch p l2 r2) := by
    intro z
    rcases List.mem_append.mp z with z | z
    · exact xA z
    · rcases List.mem_cons.mp z with z | z
      · exact xp z
      · exact xB z
  have fin : ∀ (a5q a6q a7q a8q a9q : Nat → Int32), sr_ok (f1, f2, f3, f4, f5, a1, a2, upd a3 0 0, a4, a5q, a6q, a7q, a8q, a9q, a10, a11, a12, a13, a14, a15) (sr_par c) (sr_plug e x o (.branch p l2 r2)) → (∀ k, k ≠ x → sr_eB (f1, f2, f3, f4, f5, a1, a2, upd a3 0 0, a4, a5', a6', a7', a8', a9', a10, a11, a12, a13, a14, a15) (f1, f2, f3, f4, f5, a1, a2, upd a3 0 0, a4, a5q, a6q, a7q, a8q, a9q, a10, a11, a12, a13, a14, a15) k) → post (f1, f2, f3, f4, f5, a1, a2, upd a3 0 0, a4, a5q, a6q, a7q, a8q, a9q, a10, a11, a12, a13, a14, a15) := by
    intro a5q a6q a7q a8q a9q ok eB2
    have sm2 : ∀ k, k ≠ x → k ≠ p → k ≠ 0 → sr_sm (f1, f2, f3, f4, f5, a1, a2, a3, a4, a5, a6, a7, a8, a9, a10, a11, a12, a13, a14, a15) (f1, f2, f3, f4, f5, a1, a2, upd a3 0 0, a4, a5q, a6q, a7q, a8q, a9q, a10, a11, a12, a13, a14, a15) k := fun k h1 h2 h3 => ⟨sr_eF_r (f1, f2, f3, f4, f5, a1, a2, a3, a4, a5, a6, a7, a8, a9, a10, a11, a12, a13, a14, a15) k, sr_eB_t (eB1 k h2) (eB2 k h1), sr_eL_r (f1, f2, f3, f4, f5, a1, a2, a3, a4, a5, a6, a7, a8, a9, a10, a11, a12, a13, a14, a15) k, pk_un h3⟩
    refine H _ _ _ _ _ _ ⟨ok, ?_, n⟩ sm2 (sr_eB_t (eB1 0 (fun z => p0 z.symm)) (eB2 0 (fun z => x0 z.symm)))
    rw [sr_plug_rt]
    exact sr_cok_s c x _ hc (fun k hk => sm2 k (fun z => xC (z ▸ hk)) (fun z => pC (z ▸ hk)) (by have := sr_crng c x _ hc k hk; omega))
  have xu' : upd a3 0 0 x = nI (sr_par c) := by rw [pk_un x0]; exact xu
  cases e with
  | true => exact sr_pullT (q := sr_par c) (l := .branch p l2 r2) (r := o) hb1 hx xl xr xu' zx1 zx2 zx3 op oo xP xO hvx fin
  | false => exact sr_pullT (q := sr_par c) (l := o) (r := .branch p l2 r2) hb1 hx xl xr xu' zx1 zx2 zx3 oo op xO xP hvx fin
theorem sr_lift63 {post : St1 → Prop} {x p g : Nat} {o l2 r2 : sr_T} {c : sr_C} {e : Bool} {f1 f2 f3 f4 f5 : Int32} {a1 a2 a3 a4 a5 a6 a7 a8 a9 a10 a11 a12 a13 a14 a15 : Nat → Int32} (hgp : g = sr_par c) (hb : sr_b0 (f1, f2, f3, f4, f5, a1, a2, a3, a4, a5, a6, a7, a8, a9, a10, a11, a12, a13, a14, a15)) (hx : 1 ≤ x ∧ x ≤ 48) (hp : 1 ≤ p ∧ p ≤ 48)
    (zx1 : a10 x = 0) (zx2 : a11 x = 0) (zx3 : a12 x = 0) (zp1 : a10 p = 0) (zp2 : a11 p = 0) (zp3 : a12 p = 0)
    (pl : a1 p = nI (sr_rt l2)) (pr : a2 p = nI (sr_rt r2)) (xl : a1 x = nI (if e then p else sr_rt o)) (xr : a2 x = nI (if e then sr_rt o else p))
    (o1 : sr_ok (f1, f2, f3, f4, f5, a1, a2, a3, a4, a5, a6, a7, a8, a9, a10, a11, a12, a13, a14, a15) p l2) (o2 : sr_ok (f1, f2, f3, f4, f5, a1, a2, a3, a4, a5, a6, a7, a8, a9, a10, a11, a12, a13, a14, a15) p r2) (o3 : sr_ok (f1, f2, f3, f4, f5, a1, a2, a3, a4, a5, a6, a7, a8, a9, a10, a11, a12, a13, a14, a15) x o) (hvx : sr_bv (a4 x)) (hvp : sr_bv (a4 p))
    (hc : sr_cok (f1, f2, f3, f4, f5, a1, a2, a3, a4, a5, a6, a7, a8, a9, a10, a11, a12, a13, a14, a15) c p (sr_seq a4 a10 a11 a12 (sr_plug e x o (.branch p l2 r2)))) (n : (sr_ids (sr_plug e x o (.branch p l2 r2)) ++ sr_cid c).Nodup)
    (H : ∀ (a1' a2' a3' a5' a6' a7' a8' a9' : Nat → Int32), sr_Z (f1, f2, f3, f4, f5, a1', a2', a3', a4, a5', a6', a7', a8', a9', a10, a11, a12, a13, a14, a15) c (sr_plug e x o (.branch p l2 r2)) → (∀ k, k ≠ x → k ≠ p → k ≠ g → k ≠ 0 → sr_sm (f1, f2, f3, f4, f5, a1, a2, a3, a4, a5, a6, a7, a8, a9, a10, a11, a12, a13, a14, a15) (f1, f2, f3, f4, f5, a1', a2', a3', a4, a5', a6', a7', a8', a9', a10, a11, a12, a13, a14, a15) k) → sr_eB (f1, f2, f3, f4, f5, a1, a2, a3, a4, a5, a6, a7, a8, a9, a10, a11, a12, a13, a14, a15) (f1, f2, f3, f4, f5, a1', a2', a3', a4, a5', a6', a7', a8', a9', a10, a11, a12, a13, a14, a15) 0 → post (f1, f2, f3, f4, f5, a1', a2', a3', a4, a5', a6', a7', a8', a9', a10, a11, a12, a13, a14, a15)) :
    wX_lift_63 post (nI x) (nI p) (nI g) f1 f2 f3 f4 f5 a1 a2 a3 a4 a5 a6 a7 a8 a9 a10 a11 a12 a13 a14 a15 := by
  have n' : ((sr_ids l2 ++ p :: sr_ids r2) ++ (x :: (sr_ids o ++ sr_cid c))).Nodup := by
    refine List.Perm.nodup ?_ n
    refine ((sr_plug_ids e x o (.branch p l2 r2)).append_right (sr_cid c)).trans ?_
    rw [List.append_assoc, List.cons_append]
    exact List.Perm.refl _
  obtain ⟨⟨pA, pB, pO, pC⟩, ⟨xA, xB, xO, xC, xp⟩, ⟨_, _, _, nC⟩, dA, dB, dO⟩ := sr_nd5 n'
  have x49 : x < 49 := by omega
  have p49 : p < 49 := by omega
  have vx := sr_vi x49
  have vp := sr_vi p49
  unfold wX_lift_63
  rw [sr_cl0 x49, sr_cl0 p49]
  refine ⟨vp, nm_e ⟨vx, nm_e ?_⟩⟩
  have pu : upd (upd a3 p (nI x)) x (nI g) p = nI x := by rw [pk_un (fun z => xp z.symm), pk_us]
  have xu : upd (upd a3 p (nI x)) x (nI g) x = nI g := pk_us
  have u3 : ∀ k, k ≠ x → k ≠ p → upd (upd a3 p (nI x)) x (nI g) k = a3 k := fun k h1 h2 => by rw [pk_un h1, pk_un h2]
  cases c with
  | nil =>
    have hgp : g = 0 := hgp
    subst hgp
    have sm : ∀ k, k ≠ x → k ≠ p → sr_sm (f1, f2, f3, f4, f5, a1, a2, a3, a4, a5, a6, a7, a8, a9, a10, a11, a12, a13, a14, a15) (f1, f2, f3, f4, f5, a1, a2, upd (upd a3 p (nI x)) x (nI 0), a4, a5, a6, a7, a8, a9, a10, a11, a12, a13, a14, a15) k := fun k h1 h2 => ⟨sr_eF_r (f1, f2, f3, f4, f5, a1, a2, a3, a4, a5, a6, a7, a8, a9, a10, a11, a12, a13, a14, a15) k, sr_eB_r (f1, f2, f3, f4, f5, a1, a2, a3, a4, a5, a6, a7, a8, a9, a10, a11, a12, a13, a14, a15) k, sr_eL_r (f1, f2, f3, f4, f5, a1, a2, a3, a4, a5, a6, a7, a8, a9, a10, a11, a12, a13, a14, a15) k, u3 k h1 h2⟩
    refine br_t nI_0 (sr_lift108 (e := e) (o := o) (l2 := l2) (r2 := r2) (c := []) hb hx hp zx1 zx2 zx3 zp1 zp2 zp3 pl pr pu xl xr xu (sr_ok_s _ _ o1 (fun k hk => sm k (fun z => xA (z ▸ hk)) (fun z => pA (z ▸ hk)))) (sr_ok_s _ _ o2 (fun k hk => sm k (fun z => xB (z ▸ hk)) (fun z => pB (z ▸ hk)))) (sr_ok_s _ _ o3 (fun k hk => sm k (fun z => xO (z ▸ hk)) (fun z => pO (z ▸ hk)))) hvx hvp trivial n (fun a3' a5' a6' a7' a8' a9' hz s1 s0 => ?_))
    refine H _ _ _ _ _ _ _ _ hz (fun k h1 h2 _ h4 => ?_) s0
    obtain ⟨_, gB, _, gU⟩ := s1 k h1 h2 h4
    exact ⟨sr_eF_r (f1, f2, f3, f4, f5, a1, a2, a3, a4, a5, a6, a7, a8, a9, a10, a11, a12, a13, a14, a15) k, gB, sr_eL_r (f1, f2, f3, f4, f5, a1, a2, a3, a4, a5, a6, a7, a8, a9, a10, a11, a12, a13, a14, a15) k, Eq.trans gU (u3 k h1 h2)⟩
  | cons f r =>
    obtain ⟨d, g', cc⟩ := f
    have hgp : g = g' := hgp
    subst hgp
    obtain ⟨hg, gl, gr, gu, gz, ga, gok, gc⟩ := hc
    have g49 : g < 49 := by omega
    have vg := sr_vi g49
    have xC' : ¬ (x = g ∨ x ∈ sr_ids cc ∨ x ∈ sr_cid r) := fun z => xC (List.mem_cons.mpr (z.imp id (fun z => List.mem_append.mpr z)))
    have pC' : ¬ (p = g ∨ p ∈ sr_ids cc ∨ p ∈ sr_cid r) := fun z => pC (List.mem_cons.mpr (z.imp id (fun z => List.mem_append.mpr z)))
    have xg : x ≠ g := fun z => xC' (Or.inl z)
    have pg : p ≠ g := fun z => pC' (Or.inl z)
    have inC : ∀ k, k ∈ sr_cid ((d, g, cc) :: r) → (k = g ∨ k ∈ sr_ids cc ∨ k ∈ sr_cid r) := fun k z => (List.mem_cons.mp z).imp id (fun z => List.mem_append.mp z)
    have gIn : g ∈ sr_cid ((d, g, cc) :: r) := List.mem_cons_self
    have gcc : g ∉ sr_ids cc ∧ g ∉ sr_cid r := by
      have : (g :: (sr_ids cc ++ sr_cid r)).Nodup := nC
      obtain ⟨q, _⟩ := List.nodup_cons.mp this
      exact ⟨fun z => q (List.mem_append_left _ z), fun z => q (List.mem_append_right _ z)⟩
    rw [sr_cl0 g49]
    refine br_f (nI_ne0 (by omega) (by omega)) ⟨vg, ?_⟩
    have g1 : g ∉ sr_ids l2 := fun z => (dA g z).2.2 gIn
    have g2 : g ∉ sr_ids r2 := fun z => (dB g z).2 gIn
    have g3 : g ∉ sr_ids o := fun z => dO g z gIn
    cases d with
    | true =>
      have gl : a1 g = nI p := gl
      have sm : ∀ k, k ≠ x → k ≠ p → k ≠ g → sr_sm (f1, f2, f3, f4, f5, a1, a2, a3, a4, a5, a6, a7, a8, a9, a10, a11, a12, a13, a14, a15) (f1, f2, f3, f4, f5, upd a1 g (nI x), a2, upd (upd a3 p (nI x)) x (nI g), a4, a5, a6, a7, a8, a9, a10, a11, a12, a13, a14, a15) k := fun k h1 h2 h3 => ⟨sr_eF_r (f1, f2, f3, f4, f5, a1, a2, a3, a4, a5, a6, a7, a8, a9, a10, a11, a12, a13, a14, a15) k, sr_eB_r (f1, f2, f3, f4, f5, a1, a2, a3, a4, a5, a6, a7, a8, a9, a10, a11, a12, a13, a14, a15) k, ⟨pk_un h3, rfl⟩, u3 k h1 h2⟩
      refine br_t gl ⟨vg, nm_e ?_⟩
      refine sr_lift108 (e := e) (o := o) (l2 := l2) (r2 := r2) (c := (true, g, cc) :: r) hb hx hp zx1 zx2 zx3 zp1 zp2 zp3 ?_ pr pu ?_ xr xu (sr_ok_s _ _ o1 (fun k hk => sm k (fun z => xA (z ▸ hk)) (fun z => pA (z ▸ hk)) (fun z => g1 (z ▸ hk)))) (sr_ok_s _ _ o2 (fun k hk => sm k (fun z => xB (z ▸ hk)) (fun z => pB (z ▸ hk)) (fun z => g2 (z ▸ hk)))) (sr_ok_s _ _ o3 (fun k hk => sm k (fun z => xO (z ▸ hk)) (fun z => pO (z ▸ hk)) (fun z => g3 (z ▸ hk)))) hvx hvp ?_ n (fun a3' a5' a6' a7' a8' a9' hz s1 s0 => ?_)
      · rw [pk_un pg]; exact pl
      · rw [pk_un xg]; exact xl
      · refine ⟨hg, pk_us, gr, ?_, gz, ga, sr_ok_s _ _ gok (fun k hk => sm k (fun z => xC' (Or.inr (Or.inl (z ▸ hk)))) (fun z => pC' (Or.inr (Or.inl (z ▸ hk)))) (fun z => gcc.1 (z ▸ hk))), sr_cok_s _ _ _ gc (fun k hk => sm k (fun z => xC' (Or.inr (Or.inr (z ▸ hk)))) (fun z => pC' (Or.inr (Or.inr (z ▸ hk)))) (fun z => gcc.2 (z ▸ hk)))⟩
        show upd (upd a3 p (nI x)) x (nI g) g = _
        rw [u3 g (fun z => xg z.symm) (fun z => pg z.symm)]
        exact gu
      · refine H _ _ _ _ _ _ _ _ hz (fun k h1 h2 h3 h4 => ?_) s0
        obtain ⟨_, gB, _, gU⟩ := s1 k h1 h2 h4
        exact ⟨sr_eF_r (f1, f2, f3, f4, f5, a1, a2, a3, a4, a5, a6, a7, a8, a9, a10, a11, a12, a13, a14, a15) k, gB, ⟨pk_un h3, rfl⟩, Eq.trans gU (u3 k h1 h2)⟩
    | false =>
      have gl : a1 g = nI (sr_rt cc) := gl
      have ne : ¬ a1 g = nI p := by
        rw [gl, nI_eq (by have := sr_rt_lt gok; omega) (by omega)]
        exact sr_rt_ne (fun z => pC' (Or.inr (Or.inl z))) hp.1
      have sm : ∀ k, k ≠ x → k ≠ p → k ≠ g → sr_sm (f1, f2, f3, f4, f5, a1, a2, a3, a4, a5, a6, a7, a8, a9, a10, a11, a12, a13, a14, a15) (f1, f2, f3, f4, f5, a1, upd a2 g (nI x), upd (upd a3 p (nI x)) x (nI g), a4, a5, a6, a7, a8, a9, a10, a11, a12, a13, a14, a15) k := fun k h1 h2 h3 => ⟨sr_eF_r (f1, f2, f3, f4, f5, a1, a2, a3, a4, a5, a6, a7, a8, a9, a10, a11, a12, a13, a14, a15) k, sr_eB_r (f1, f2, f3, f4, f5, a1, a2, a3, a4, a5, a6, a7, a8, a9, a10, a11, a12, a13, a14, a15) k, ⟨rfl, pk_un h3⟩, u3 k h1 h2⟩
      refine br_f ne ⟨vg, nm_e ?_⟩
      refine sr_lift108 (e := e) (o := o) (l2 := l2) (r2 := r2) (c := (false, g, cc) :: r) hb hx hp zx1 zx2 zx3 zp1 zp2 zp3 pl ?_ pu xl ?_ xu (sr_ok_s _ _ o1 (fun k hk => sm k (fun z => xA (z ▸ hk)) (fun z => pA (z ▸ hk)) (fun z => g1 (z ▸ hk)))) (sr_ok_s _ _ o2 (fun k hk => sm k (fun z => xB (z ▸ hk)) (fun z => pB (z ▸ hk)) (fun z => g2 (z ▸ hk)))) (sr_ok_s _ _ o3 (fun k hk => sm k (fun z => xO (z ▸ hk)) (fun z => pO (z ▸ hk)) (fun z => g3 (z ▸ hk)))) hvx hvp ?_ n (fun a3' a5' a6' a7' a8' a9' hz s1 s0 => ?_)
      · rw [pk_un pg]; exact pr
      · rw [pk_un xg]; exact xr
      · refine ⟨hg, gl, pk_us, ?_, gz, ga, sr_ok_s _ _ gok (fun k hk => sm k (fun z => xC' (Or.inr (Or.inl (z ▸ hk)))) (fun z => pC' (Or.inr (Or.inl (z ▸ hk)))) (fun z => gcc.1 (z ▸ hk))), sr_cok_s _ _ _ gc (fun k hk => sm k (fun z => xC' (Or.inr (Or.inr (z ▸ hk)))) (fun z => pC' (Or.inr (Or.inr (z ▸ hk)))) (fun z => gcc.2 (z ▸ hk)))⟩
        show upd (upd a3 p (nI x)) x (nI g) g = _
        rw [u3 g (fun z => xg z.symm) (fun z => pg z.symm)]
        exact gu
      · refine H _ _ _ _ _ _ _ _ hz (fun k h1 h2 h3 h4 => ?_) s0
        obtain ⟨_, gB, _, gU⟩ := s1 k h1 h2 h4
        exact ⟨sr_eF_r (f1, f2, f3, f4, f5, a1, a2, a3, a4, a5, a6, a7, a8, a9, a10, a11, a12, a13, a14, a15) k, gB, ⟨rfl, pk_un h3⟩, Eq.trans gU (u3 k h1 h2)⟩
def sr_rot : Bool → Nat → sr_T → sr_T → Nat → sr_T → sr_T
  | true, x, a, b, p, c => .branch x a (.branch p b c)
  | false, x, a, b, p, c => .branch x (.branch p c a) b
theorem sr_rot_seq {v tu mi ad : Nat → Int32} {d : Bool} {x p : Nat} {a b c : sr_T} (x1 : tu x = 0) (x2 : mi x = 0) (x3 : ad x = 0) (p1 : tu p = 0) (p2 : mi p = 0) (p3 : ad p = 0) : sr_seq v tu mi ad (sr_rot d x a b p c) = sr_fs v tu mi ad d p c (sr_seq v tu mi ad (.branch x a b)) := by
  cases d with
  | true =>
    show sr_seq v tu mi ad (.branch x a (.branch p b c)) = sr_seq v tu mi ad (.branch x a b) ++ v p :: sr_seq v tu mi ad c
    rw [sr_seq_z x1 x2 x3, sr_seq_z p1 p2 p3, sr_seq_z x1 x2 x3, List.append_assoc, List.cons_append]
  | false =>
    show sr_seq v tu mi ad (.branch x (.branch p c a) b) = sr_seq v tu mi ad c ++ v p :: sr_seq v tu mi ad (.branch x a b)
    rw [sr_seq_z x1 x2 x3, sr_seq_z p1 p2 p3, sr_seq_z x1 x2 x3, List.append_assoc, List.cons_append]
theorem sr_rot_ids (d : Bool) (x p : Nat) (a b c : sr_T) : (sr_ids (sr_rot d x a b p c)).Perm (sr_ids (.branch x a b) ++ p :: sr_ids c) := by
  cases d with
  | true =>
    show (sr_ids a ++ x :: (sr_ids b ++ p :: sr_ids c)).Perm ((sr_ids a ++ x :: sr_ids b) ++ p :: sr_ids c)
    rw [List.append_assoc, List.cons_append]
  | false =>
    show ((sr_ids c ++ p :: sr_ids a) ++ x :: sr_ids b).Perm ((sr_ids a ++ x :: sr_ids b) ++ p :: sr_ids c)
    rw [List.perm_iff_count]
    intro k
    simp only [List.count_append, List.count_cons]
    omega
theorem sr_lift {post : St1 → Prop} {x p : Nat} {a b c : sr_T} {d : Bool} {r : sr_C} {f1 f2 f3 f4 f5 : Int32} {a1 a2 a3 a4 a5 a6 a7 a8 a9 a10 a11 a12 a13 a14 a15 : Nat → Int32} (hb : sr_b0 (f1, f2, f3, f4, f5, a1, a2, a3, a4, a5, a6, a7, a8, a9, a10, a11, a12, a13, a14, a15)) (hz : sr_Z (f1, f2, f3, f4, f5, a1, a2, a3, a4, a5, a6, a7, a8, a9, a10, a11, a12, a13, a14, a15) ((d, p, c) :: r) (.branch x a b)) (zx1 : a10 x = 0) (zx2 : a11 x = 0) (zx3 : a12 x = 0)
    (H : ∀ (a1' a2' a3' a5' a6' a7' a8' a9' : Nat → Int32), sr_Z (f1, f2, f3, f4, f5, a1', a2', a3', a4, a5', a6', a7', a8', a9', a10, a11, a12, a13, a14, a15) r (sr_rot d x a b p c) → sr_out (f1, f2, f3, f4, f5, a1, a2, a3, a4, a5, a6, a7, a8, a9, a10, a11, a12, a13, a14, a15) (f1, f2, f3, f4, f5, a1', a2', a3', a4, a5', a6', a7', a8', a9', a10, a11, a12, a13, a14, a15) (sr_ids (.branch x a b) ++ sr_cid ((d, p, c) :: r)) → post (f1, f2, f3, f4, f5, a1', a2', a3', a4, a5', a6', a7', a8', a9', a10, a11, a12, a13, a14, a15)) :
    wpX_lift post (f1, f2, f3, f4, f5, a1, a2, a3, a4, a5, a6, a7, a8, a9, a10, a11, a12, a13, a14, a15) (nI x) := by
  obtain ⟨⟨hx, hl, hr, hu, ha, oa, ob⟩, ⟨hp, gl, gr, gu, ⟨zp1, zp2, zp3⟩, ga, oc, hc⟩, n⟩ := hz
  have hl : a1 x = nI (sr_rt a) := hl
  have hr : a2 x = nI (sr_rt b) := hr
  have hu : a3 x = nI p := hu
  have gu : a3 p = nI (sr_par r) := gu
  have n' : ((sr_ids a ++ x :: sr_ids b) ++ (p :: (sr_ids c ++ sr_cid r))).Nodup := n
  obtain ⟨⟨xA, xB, xO, xC⟩, ⟨pA, pB, pO, pC, pxn⟩, ⟨nA, nB, nO, nC⟩, dA, dB, dO⟩ := sr_nd5 n'
  have xp : x ≠ p := fun z => pxn z.symm
  have x49 : x < 49 := by omega
  have p49 : p < 49 := by omega
  have vx := sr_vi x49
  have vp := sr_vi p49
  have x0 : x ≠ 0 := by omega
  have p0 : p ≠ 0 := by omega
  have vxb : sr_bv (a4 x) := ha.2.2.2.2 (a4 x) (List.mem_append_right _ List.mem_cons_self)
  have es := sr_rot_seq (v := a4) (d := d) (a := a) (b := b) (c := c) zx1 zx2 zx3 zp1 zp2 zp3
  have nz : ∀ {q : Nat} {t : sr_T}, sr_ok (f1, f2, f3, f4, f5, a1, a2, a3, a4, a5, a6, a7, a8, a9, a10, a11, a12, a13, a14, a15) q t → ∀ k, k ∈ sr_ids t → k ≠ 0 := fun h k hk g => sr_no0 h (g ▸ hk)
  have nrot : (sr_ids (sr_rot d x a b p c) ++ sr_cid r).Nodup := by
    refine List.Perm.nodup ?_ n'
    refine List.Perm.trans ?_ ((sr_rot_ids d x p a b c).append_right (sr_cid r)).symm
    show ((sr_ids a ++ x :: sr_ids b) ++ (p :: (sr_ids c ++ sr_cid r))).Perm ((sr_ids a ++ x :: sr_ids b) ++ (p :: sr_ids c) ++ sr_cid r)
    rw [List.append_assoc (sr_ids a ++ x :: sr_ids b), List.cons_append]
  have parC : ∀ k, k ∉ sr_ids (.branch x a b) ++ sr_cid ((d, p, c) :: r) → k ≠ 0 → k ≠ sr_par r := by
    intro k hk k0 e
    cases r with
    | nil => exact k0 e
    | cons f r' =>
      obtain ⟨d', g, c'⟩ := f
      have e : k = g := e
      refine hk (List.mem_append_right _ (List.mem_cons_of_mem _ (List.mem_append_right _ ?_)))
      rw [e]
      exact List.mem_cons_self
  have vpb : sr_bv (a4 p) := by
    refine ga.2.2.2.2 (a4 p) ?_
    cases d with
    | true => exact List.mem_append_right _ List.mem_cons_self
    | false => exact List.mem_append_right _ List.mem_cons_self
  have inX : ∀ k, k ∉ sr_ids (.branch x a b) ++ sr_cid ((d, p, c) :: r) → k ≠ x := fun k hk e => hk (List.mem_append_left _ (e ▸ sr_xin x a b))
  have inP : ∀ k, k ∉ sr_ids (.branch x a b) ++ sr_cid ((d, p, c) :: r) → k ≠ p := fun k hk e => hk (List.mem_append_right _ (e ▸ List.mem_cons_self))
  have in0 : (0 : Nat) ∈ sr_ids (.branch x a b) ++ sr_cid ((d, p, c) :: r) → False := by
    intro z
    rcases List.mem_append.mp z with z | z
    · rcases List.mem_append.mp z with z | z
      · exact sr_no0 oa z
      · rcases List.mem_cons.mp z with z | z
        · exact x0 z.symm
        · exact sr_no0 ob z
    · rcases List.mem_cons.mp z with z | z
      · exact p0 z.symm
      · rcases List.mem_append.mp z with z | z
        · exact sr_no0 oc z
        · have := sr_crng r p _ hc 0 z
          omega
  unfold wpX_lift
  dsimp only
  rw [sr_cl0 x49]
  refine ⟨vx, nm_r hu ?_⟩
  rw [sr_cl0 p49]
  refine ⟨vp, nm_r gu ⟨vp, ?_⟩⟩
  cases d with
  | true =>
    have gl : a1 p = nI x := gl
    have gr : a2 p = nI (sr_rt c) := gr
    refine br_t gl ⟨vx, ?_⟩
    rw [hr]
    unfold wpX_setLeft
    dsimp only
    rw [sr_cl0 p49, sr_cl0 (sr_rt_lt ob)]
    refine ⟨vp, nm_e ⟨sr_vi (sr_rt_lt ob), nm_e ⟨vx, nm_e ?_⟩⟩⟩
    have sm : ∀ k, k ≠ x → k ≠ p → k ≠ sr_rt b → sr_sm (f1, f2, f3, f4, f5, a1, a2, a3, a4, a5, a6, a7, a8, a9, a10, a11, a12, a13, a14, a15) (f1, f2, f3, f4, f5, upd a1 p (nI (sr_rt b)), upd a2 x (nI p), upd a3 (sr_rt b) (nI p), a4, a5, a6, a7, a8, a9, a10, a11, a12, a13, a14, a15) k := fun k h1 h2 h3 => ⟨sr_eF_r (f1, f2, f3, f4, f5, a1, a2, a3, a4, a5, a6, a7, a8, a9, a10, a11, a12, a13, a14, a15) k, sr_eB_r (f1, f2, f3, f4, f5, a1, a2, a3, a4, a5, a6, a7, a8, a9, a10, a11, a12, a13, a14, a15) k, ⟨pk_un h2, pk_un h1⟩, pk_un h3⟩
    have rb : ∀ k, k ≠ 0 → k ∉ sr_ids b → k ≠ sr_rt b := fun k k0 hk e => by
      rcases sr_rt_in b with z | z
      · exact k0 (e.trans z)
      · exact hk (e ▸ z)
    have o1 : sr_ok (f1, f2, f3, f4, f5, upd a1 p (nI (sr_rt b)), upd a2 x (nI p), upd a3 (sr_rt b) (nI p), a4, a5, a6, a7, a8, a9, a10, a11, a12, a13, a14, a15) p b :=
      sr_ok_p ob nB (fun k hk => ⟨sr_eF_r (f1, f2, f3, f4, f5, a1, a2, a3, a4, a5, a6, a7, a8, a9, a10, a11, a12, a13, a14, a15) k, sr_eB_r (f1, f2, f3, f4, f5, a1, a2, a3, a4, a5, a6, a7, a8, a9, a10, a11, a12, a13, a14, a15) k, ⟨pk_un (fun z => pB (z ▸ hk)), pk_un (fun z => xB (z ▸ hk))⟩⟩) (fun k hk h => pk_un h) (fun _ => pk_us)
    have o2 : sr_ok (f1, f2, f3, f4, f5, upd a1 p (nI (sr_rt b)), upd a2 x (nI p), upd a3 (sr_rt b) (nI p), a4, a5, a6, a7, a8, a9, a10, a11, a12, a13, a14, a15) p c :=
      sr_ok_s c p oc (fun k hk => sm k (fun z => xO (z ▸ hk)) (fun z => pO (z ▸ hk)) (rb k (nz oc k hk) (fun z => (dB k z).1 hk)))
    have o3 : sr_ok (f1, f2, f3, f4, f5, upd a1 p (nI (sr_rt b)), upd a2 x (nI p), upd a3 (sr_rt b) (nI p), a4, a5, a6, a7, a8, a9, a10, a11, a12, a13, a14, a15) x a :=
      sr_ok_s a x oa (fun k hk => sm k (fun z => xA (z ▸ hk)) (fun z => pA (z ▸ hk)) (rb k (nz oa k hk) (fun z => (dA k hk).1 z)))
    have hc' : sr_cok (f1, f2, f3, f4, f5, upd a1 p (nI (sr_rt b)), upd a2 x (nI p), upd a3 (sr_rt b) (nI p), a4, a5, a6, a7, a8, a9, a10, a11, a12, a13, a14, a15) r p (sr_seq a4 a10 a11 a12 (sr_plug false x a (.branch p b c))) := by
      have es' : sr_seq a4 a10 a11 a12 (sr_plug false x a (.branch p b c)) = sr_fs a4 a10 a11 a12 true p c (sr_seq a4 a10 a11 a12 (.branch x a b)) := es
      rw [es']
      exact sr_cok_s r p _ hc (fun k hk => sm k (fun z => xC (z ▸ hk)) (fun z => pC (z ▸ hk)) (rb k (by have := sr_crng r p _ hc k hk; omega) (fun z => (dB k z).2 hk)))
    refine sr_lift63 (e := false) (o := a) (l2 := b) (r2 := c) (c := r) rfl hb hx hp zx1 zx2 zx3 zp1 zp2 zp3 pk_us ?_ ?_ pk_us o1 o2 o3 vxb vpb hc' nrot (fun a1' a2' a3' a5' a6' a7' a8' a9' hz' s1 s0 => H _ _ _ _ _ _ _ _ hz' (fun k hk => ?_))
    · rw [pk_un (fun z => xp z.symm)]; exact gr
    · rw [pk_un xp]; exact hl
    · by_cases k0 : k = 0
      · rw [k0]; exact ⟨sr_eF_r (f1, f2, f3, f4, f5, a1, a2, a3, a4, a5, a6, a7, a8, a9, a10, a11, a12, a13, a14, a15) 0, s0, fun z => absurd rfl z⟩
      · obtain ⟨_, gB, gL, gU⟩ := s1 k (inX k hk) (inP k hk) (parC k hk k0) k0
        obtain ⟨_, _, gL', gU'⟩ := sm k (inX k hk) (inP k hk) (rb k k0 (fun z => hk (List.mem_append_left _ (sr_rin z))))
        exact ⟨sr_eF_r (f1, f2, f3, f4, f5, a1, a2, a3, a4, a5, a6, a7, a8, a9, a10, a11, a12, a13, a14, a15) k, gB, fun _ => ⟨sr_eL_t gL' gL, sr_eU_t gU' gU⟩⟩
  | false =>
    have gl : a1 p = nI (sr_rt c) := gl
    have gr : a2 p = nI x := gr
    have ne : ¬ a1 p = nI x := by
      rw [gl, nI_eq (by have := sr_rt_lt oc; omega) (by omega)]
      exact sr_rt_ne xO hx.1
    refine br_f ne ⟨vx, ?_⟩
    rw [hl]
    unfold wpX_setRight
    dsimp only
    rw [sr_cl0 p49, sr_cl0 (sr_rt_lt oa)]
    refine ⟨vp, nm_e ⟨sr_vi (sr_rt_lt oa), nm_e ⟨vx, nm_e ?_⟩⟩⟩
    have sm : ∀ k, k ≠ x → k ≠ p → k ≠ sr_rt a → sr_sm (f1, f2, f3, f4, f5, a1, a2, a3, a4, a5, a6, a7, a8, a9, a10, a11, a12, a13, a14, a15) (f1, f2, f3, f4, f5, upd a1 x (nI p), upd a2 p (nI (sr_rt a)), upd a3 (sr_rt a) (nI p), a4, a5, a6, a7, a8, a9, a10, a11, a12, a13, a14, a15) k := fun k h1 h2 h3 => ⟨sr_eF_r (f1, f2, f3, f4, f5, a1, a2, a3, a4, a5, a6, a7, a8, a9, a10, a11, a12, a13, a14, a15) k, sr_eB_r (f1, f2, f3, f4, f5, a1, a2, a3, a4, a5, a6, a7, a8, a9, a10, a11, a12, a13, a14, a15) k, ⟨pk_un h1, pk_un h2⟩, pk_un h3⟩
    have ra : ∀ k, k ≠ 0 → k ∉ sr_ids a → k ≠ sr_rt a := fun k k0 hk e => by
      rcases sr_rt_in a with z | z
      · exact k0 (e.trans z)
      · exact hk (e ▸ z)
    have o2 : sr_ok (f1, f2, f3, f4, f5, upd a1 x (nI p), upd a2 p (nI (sr_rt a)), upd a3 (sr_rt a) (nI p), a4, a5, a6, a7, a8, a9, a10, a11, a12, a13, a14, a15) p a :=
      sr_ok_p oa nA (fun k hk => ⟨sr_eF_r (f1, f2, f3, f4, f5, a1, a2, a3, a4, a5, a6, a7, a8, a9, a10, a11, a12, a13, a14, a15) k, sr_eB_r (f1, f2, f3, f4, f5, a1, a2, a3, a4, a5, a6, a7, a8, a9, a10, a11, a12, a13, a14, a15) k, ⟨pk_un (fun z => xA (z ▸ hk)), pk_un (fun z => pA (z ▸ hk))⟩⟩) (fun k hk h => pk_un h) (fun _ => pk_us)
    have o1 : sr_ok (f1, f2, f3, f4, f5, upd a1 x (nI p), upd a2 p (nI (sr_rt a)), upd a3 (sr_rt a) (nI p), a4, a5, a6, a7, a8, a9, a10, a11, a12, a13, a14, a15) p c :=
      sr_ok_s c p oc (fun k hk => sm k (fun z => xO (z ▸ hk)) (fun z => pO (z ▸ hk)) (ra k (nz oc k hk) (fun z => (dA k z).2.1 hk)))
    have o3 : sr_ok (f1, f2, f3, f4, f5, upd a1 x (nI p), upd a2 p (nI (sr_rt a)), upd a3 (sr_rt a) (nI p), a4, a5, a6, a7, a8, a9, a10, a11, a12, a13, a14, a15) x b :=
      sr_ok_s b x ob (fun k hk => sm k (fun z => xB (z ▸ hk)) (fun z => pB (z ▸ hk)) (ra k (nz ob k hk) (fun z => (dA k z).1 hk)))
    have hc' : sr_cok (f1, f2, f3, f4, f5, upd a1 x (nI p), upd a2 p (nI (sr_rt a)), upd a3 (sr_rt a) (nI p), a4, a5, a6, a7, a8, a9, a10, a11, a12, a13, a14, a15) r p (sr_seq a4 a10 a11 a12 (sr_plug true x b (.branch p c a))) := by
      have es' : sr_seq a4 a10 a11 a12 (sr_plug true x b (.branch p c a)) = sr_fs a4 a10 a11 a12 false p c (sr_seq a4 a10 a11 a12 (.branch x a b)) := es
      rw [es']
      exact sr_cok_s r p _ hc (fun k hk => sm k (fun z => xC (z ▸ hk)) (fun z => pC (z ▸ hk)) (ra k (by have := sr_crng r p _ hc k hk; omega) (fun z => (dA k z).2.2 hk)))
    refine sr_lift63 (e := true) (o := b) (l2 := c) (r2 := a) (c := r) rfl hb hx hp zx1 zx2 zx3 zp1 zp2 zp3 ?_ pk_us pk_us ?_ o1 o2 o3 vxb vpb hc' nrot (fun a1' a2' a3' a5' a6' a7' a8' a9' hz' s1 s0 => H _ _ _ _ _ _ _ _ hz' (fun k hk => ?_))
    · rw [pk_un (fun z => xp z.symm)]; exact gl
    · rw [pk_un xp]; exact hr
    · by_cases k0 : k = 0
      · rw [k0]; exact ⟨sr_eF_r (f1, f2, f3, f4, f5, a1, a2, a3, a4, a5, a6, a7, a8, a9, a10, a11, a12, a13, a14, a15) 0, s0, fun z => absurd rfl z⟩
      · obtain ⟨_, gB, gL, gU⟩ := s1 k (inX k hk) (inP k hk) (parC k hk k0) k0
        obtain ⟨_, _, gL', gU'⟩ := sm k (inX k hk) (inP k hk) (ra k k0 (fun z => hk (List.mem_append_left _ (sr_lin z))))
        exact ⟨sr_eF_r (f1, f2, f3, f4, f5, a1, a2, a3, a4, a5, a6, a7, a8, a9, a10, a11, a12, a13, a14, a15) k, gB, fun _ => ⟨sr_eL_t gL' gL, sr_eU_t gU' gU⟩⟩
end
section
/-! splay: the loop -/
theorem sr_rot_b (d : Bool) (x : Nat) (a b : sr_T) (p : Nat) (c : sr_T) : ∃ a' b', sr_rot d x a b p c = .branch x a' b' ∧ (sr_ids a').length = (if d then 0 else (sr_ids c).length + 1) + (sr_ids a).length := by
  cases d with
  | true => exact ⟨a, .branch p b c, rfl, (Nat.zero_add _).symm⟩
  | false =>
    refine ⟨.branch p c a, b, rfl, ?_⟩
    show (sr_ids c ++ p :: sr_ids a).length = (sr_ids c).length + 1 + (sr_ids a).length
    rw [List.length_append, List.length_cons]
    omega
theorem sr_cl_c (d : Bool) (p : Nat) (c : sr_T) (r : sr_C) : sr_cl ((d, p, c) :: r) = sr_cl r + (if d then 0 else (sr_ids c).length + 1) := by
  cases d <;> rfl
theorem sr_cidp {x p : Nat} {a b c a' b' : sr_T} {d : Bool} {r : sr_C} (e : sr_rot d x a b p c = .branch x a' b') : (sr_ids (.branch x a' b') ++ sr_cid r).Perm (sr_ids (.branch x a b) ++ sr_cid ((d, p, c) :: r)) := by
  rw [← e]
  refine ((sr_rot_ids d x p a b c).append_right (sr_cid r)).trans ?_
  show (sr_ids (.branch x a b) ++ (p :: sr_ids c) ++ sr_cid r).Perm (sr_ids (.branch x a b) ++ (p :: (sr_ids c ++ sr_cid r)))
  rw [List.append_assoc, List.cons_append]
theorem sr_b0_z {u u' : St1} {c : sr_C} {t : sr_T} (hz : sr_Z u c t) (hb : sr_b0 u) (ho : sr_out u u' (sr_ids t ++ sr_cid c)) : sr_b0 u' := by
  refine sr_b0_o ho (fun z => ?_) hb
  rcases List.mem_append.mp z with z | z
  · exact sr_no0 hz.1 z
  · have := sr_crng c _ _ hz.2.1 0 z
    omega
theorem sr_spl92 {post : St1 → Prop} {J : Int32 → Int32 → Int32 → Int32 → Int32 → Int32 → (Nat → Int32) → (Nat → Int32) → (Nat → Int32) → (Nat → Int32) → (Nat → Int32) → (Nat → Int32) → (Nat → Int32) → (Nat → Int32) → (Nat → Int32) → (Nat → Int32) → (Nat → Int32) → (Nat → Int32) → (Nat → Int32) → (Nat → Int32) → (Nat → Int32) → Prop} {x p : Nat} {a b c : sr_T} {d : Bool} {r : sr_C} {x2 : Int32} {f1 f2 f3 f4 f5 : Int32} {a1 a2 a3 a4 a5 a6 a7 a8 a9 a10 a11 a12 a13 a14 a15 : Nat → Int32} (hb : sr_b0 (f1, f2, f3, f4, f5, a1, a2, a3, a4, a5, a6, a7, a8, a9, a10, a11, a12, a13, a14, a15)) (hz : sr_Z (f1, f2, f3, f4, f5, a1, a2, a3, a4, a5, a6, a7, a8, a9, a10, a11, a12, a13, a14, a15) ((d, p, c) :: r) (.branch x a b)) (zx1 : a10 x = 0) (zx2 : a11 x = 0) (zx3 : a12 x = 0)
    (H : ∀ (a1' a2' a3' a5' a6' a7' a8' a9' : Nat → Int32) (a' b' : sr_T), sr_b0 (f1, f2, f3, f4, f5, a1', a2', a3', a4, a5', a6', a7', a8', a9', a10, a11, a12, a13, a14, a15) → sr_Z (f1, f2, f3, f4, f5, a1', a2', a3', a4, a5', a6', a7', a8', a9', a10, a11, a12, a13, a14, a15) r (.branch x a' b') → sr_seq a4 a10 a11 a12 (.branch x a' b') = sr_fs a4 a10 a11 a12 d p c (sr_seq a4 a10 a11 a12 (.branch x a b)) → sr_cl r + (sr_ids a').length = sr_cl ((d, p, c) :: r) + (sr_ids a).length → (sr_ids (.branch x a' b') ++ sr_cid r).Perm (sr_ids (.branch x a b) ++ sr_cid ((d, p, c) :: r)) → sr_out (f1, f2, f3, f4, f5, a1, a2, a3, a4, a5, a6, a7, a8, a9, a10, a11, a12, a13, a14, a15) (f1, f2, f3, f4, f5, a1', a2', a3', a4, a5', a6', a7', a8', a9', a10, a11, a12, a13, a14, a15) (sr_ids (.branch x a b) ++ sr_cid ((d, p, c) :: r)) → J (x2 + 1) f1 f2 f3 f4 f5 a1' a2' a3' a4 a5' a6' a7' a8' a9' a10 a11 a12 a13 a14 a15) :
    wX_splay_92 post J (nI x) x2 f1 f2 f3 f4 f5 a1 a2 a3 a4 a5 a6 a7 a8 a9 a10 a11 a12 a13 a14 a15 := by
  unfold wX_splay_92
  refine sr_lift hb hz zx1 zx2 zx3 (fun a1' a2' a3' a5' a6' a7' a8' a9' hz' ou => nm_e ?_)
  obtain ⟨a', b', e, le⟩ := sr_rot_b d x a b p c
  have hp := hz.2.1
  obtain ⟨_, _, _, _, ⟨zp1, zp2, zp3⟩, _, _, _⟩ := hp
  have es := sr_rot_seq (v := a4) (d := d) (a := a) (b := b) (c := c) zx1 zx2 zx3 zp1 zp2 zp3
  have hb' := sr_b0_z hz hb ou
  have cp := sr_cidp (r := r) e
  rw [e] at hz' es
  refine H _ _ _ _ _ _ _ _ a' b' hb' hz' es ?_ cp ou
  rw [sr_cl_c, le]
  omega
theorem sr_spl89 {post : St1 → Prop} {J : Int32 → Int32 → Int32 → Int32 → Int32 → Int32 → (Nat → Int32) → (Nat → Int32) → (Nat → Int32) → (Nat → Int32) → (Nat → Int32) → (Nat → Int32) → (Nat → Int32) → (Nat → Int32) → (Nat → Int32) → (Nat → Int32) → (Nat → Int32) → (Nat → Int32) → (Nat → Int32) → (Nat → Int32) → (Nat → Int32) → Prop} {x p g : Nat} {a b c c' : sr_T} {d d' : Bool} {r : sr_C} {x2 : Int32} {f1 f2 f3 f4 f5 : Int32} {a1 a2 a3 a4 a5 a6 a7 a8 a9 a10 a11 a12 a13 a14 a15 : Nat → Int32} (hb : sr_b0 (f1, f2, f3, f4, f5, a1, a2, a3, a4, a5, a6, a7, a8, a9, a10, a11, a12, a13, a14, a15)) (hz : sr_Z (f1, f2, f3, f4, f5, a1, a2, a3, a4, a5, a6, a7, a8, a9, a10, a11, a12, a13, a14, a15) ((d, p, c) :: (d', g, c') :: r) (.branch x a b)) (zx1 : a10 x = 0) (zx2 : a11 x = 0) (zx3 : a12 x = 0)
    (H : ∀ (a1' a2' a3' a5' a6' a7' a8' a9' : Nat → Int32) (a' b' : sr_T), sr_b0 (f1, f2, f3, f4, f5, a1', a2', a3', a4, a5', a6', a7', a8', a9', a10, a11, a12, a13, a14, a15) → sr_Z (f1, f2, f3, f4, f5, a1', a2', a3', a4, a5', a6', a7', a8', a9', a10, a11, a12, a13, a14, a15) r (.branch x a' b') → sr_seq a4 a10 a11 a12 (.branch x a' b') = sr_fs a4 a10 a11 a12 d' g c' (sr_fs a4 a10 a11 a12 d p c (sr_seq a4 a10 a11 a12 (.branch x a b))) → sr_cl r + (sr_ids a').length = sr_cl ((d, p, c) :: (d', g, c') :: r) + (sr_ids a).length → (sr_ids (.branch x a' b') ++ sr_cid r).Perm (sr_ids (.branch x a b) ++ sr_cid ((d, p, c) :: (d', g, c') :: r)) → sr_out (f1, f2, f3, f4, f5, a1, a2, a3, a4, a5, a6, a7, a8, a9, a10, a11, a12, a13, a14, a15) (f1, f2, f3, f4, f5, a1', a2', a3', a4, a5', a6', a7', a8', a9', a10, a11, a12, a13, a14, a15) (sr_ids (.branch x a b) ++ sr_cid ((d, p, c) :: (d', g, c') :: r)) → J (x2 + 1) f1 f2 f3 f4 f5 a1' a2' a3' a4 a5' a6' a7' a8' a9' a10 a11 a12 a13 a14 a15) :
    wX_splay_89 post J (nI x) x2 (nI (if d = d' then p else x)) f1 f2 f3 f4 f5 a1 a2 a3 a4 a5 a6 a7 a8 a9 a10 a11 a12 a13 a14 a15 := by
  unfold wX_splay_89
  obtain ⟨_, _, _, _, ⟨zp1, zp2, zp3⟩, _, _, ⟨_, _, _, _, ⟨zg1, zg2, zg3⟩, _, _, _⟩⟩ := hz.2.1
  by_cases hd : d = d'
  · rw [if_pos hd]
    -- straight: first the node above
    have key : ∀ (P : sr_T) (a1p b1p : sr_T) (G : sr_T), sr_plug d p c (.branch x a b) = .branch p a1p b1p → sr_rot d' p a1p b1p g c' = sr_plug d p G (.branch x a b) → (sr_ids (.branch x a b) ++ sr_cid ((d, p, G) :: r)).Perm (sr_ids (.branch x a b) ++ sr_cid ((d, p, c) :: (d', g, c') :: r)) → sr_fs a4 a10 a11 a12 d p G (sr_seq a4 a10 a11 a12 (.branch x a b)) = sr_fs a4 a10 a11 a12 d' g c' (sr_fs a4 a10 a11 a12 d p c (sr_seq a4 a10 a11 a12 (.branch x a b))) → sr_cl ((d, p, G) :: r) = sr_cl ((d, p, c) :: (d', g, c') :: r) → wpX_lift (fun u => match u with | (f0_row_68, f0_clip_69, f0_before_70, f0_middle_71, f0_behind_72, am891_75, am892_78, am893_81, am894_84, am895_87, am896_90, am897_93, am898_96, am899_99, am8910_102, am8911_105, am8912_108, am8913_111, am8914_114, am8915_117) => (wX_splay_92 post J (nI x) x2 f0_row_68 f0_clip_69 f0_before_70 f0_middle_71 f0_behind_72 am891_75 am892_78 am893_81 am894_84 am895_87 am896_90 am897_93 am898_96 am899_99 am8910_102 am8911_105 am8912_108 am8913_111 am8914_114 am8915_117)) (f1, f2, f3, f4, f5, a1, a2, a3, a4, a5, a6, a7, a8, a9, a10, a11, a12, a13, a14, a15) (nI p) := by
      intro _ ap bp G e1 e2 pe se ce
      have hu := sr_zup hz
      rw [e1] at hu
      refine sr_lift hb hu zp1 zp2 zp3 (fun a1' a2' a3' a5' a6' a7' a8' a9' hz' ou => ?_)
      dsimp only
      rw [e2] at hz'
      have hz2 := sr_zdn hz' ⟨zp1, zp2, zp3⟩
      have sub : ∀ k, k ∈ sr_ids (.branch p ap bp) ++ sr_cid ((d', g, c') :: r) → k ∈ sr_ids (.branch x a b) ++ sr_cid ((d, p, c) :: (d', g, c') :: r) := by
        intro k hk
        rw [← e1] at hk
        rcases List.mem_append.mp hk with z | z
        · rcases List.mem_append.mp ((sr_plug_ids d p c (.branch x a b)).mem_iff.mp z) with z | z
          · exact List.mem_append_left _ z
          · rcases List.mem_cons.mp z with z | z
            · exact List.mem_append_right _ (z ▸ List.mem_cons_self)
            · exact List.mem_append_right _ (List.mem_cons_of_mem _ (List.mem_append_left _ z))
        · exact List.mem_append_right _ (List.mem_cons_of_mem _ (List.mem_append_right _ z))
      have hb' := sr_b0_z hu hb ou
      refine sr_spl92 hb' hz2 zx1 zx2 zx3 (fun a1q a2q a3q a5q a6q a7q a8q a9q a' b' hb2 hz3 es le pp oo => H _ _ _ _ _ _ _ _ a' b' hb2 hz3 (es.trans se) (le.trans (by rw [ce])) (pp.trans pe) (sr_out_t (sr_out_w ou sub) (sr_out_w oo (fun k hk => pe.mem_iff.mp hk))))
    subst hd
    cases d with
    | true =>
      refine key sr_lef (.branch x a b) c (.branch g c c') rfl rfl ?_ ?_ rfl
      · show (sr_ids (.branch x a b) ++ (p :: ((sr_ids c ++ g :: sr_ids c') ++ sr_cid r))).Perm (sr_ids (.branch x a b) ++ (p :: (sr_ids c ++ (g :: (sr_ids c' ++ sr_cid r)))))
        rw [List.append_assoc, List.cons_append]
      · show sr_seq a4 a10 a11 a12 (.branch x a b) ++ a4 p :: sr_seq a4 a10 a11 a12 (.branch g c c') = (sr_seq a4 a10 a11 a12 (.branch x a b) ++ a4 p :: sr_seq a4 a10 a11 a12 c) ++ a4 g :: sr_seq a4 a10 a11 a12 c'
        rw [sr_seq_z zg1 zg2 zg3, List.append_assoc, List.cons_append]
    | false =>
      refine key sr_lef c (.branch x a b) (.branch g c' c) rfl rfl ?_ ?_ ?_
      · show (sr_ids (.branch x a b) ++ (p :: ((sr_ids c' ++ g :: sr_ids c) ++ sr_cid r))).Perm (sr_ids (.branch x a b) ++ (p :: (sr_ids c ++ (g :: (sr_ids c' ++ sr_cid r)))))
        rw [List.perm_iff_count]
        intro k
        simp only [List.count_append, List.count_cons]
        omega
      · show sr_seq a4 a10 a11 a12 (.branch g c' c) ++ a4 p :: sr_seq a4 a10 a11 a12 (.branch x a b) = sr_seq a4 a10 a11 a12 c' ++ a4 g :: (sr_seq a4 a10 a11 a12 c ++ a4 p :: sr_seq a4 a10 a11 a12 (.branch x a b))
        rw [sr_seq_z zg1 zg2 zg3, List.append_assoc, List.cons_append]
      · show sr_cl r + ((sr_ids c' ++ g :: sr_ids c).length + 1) = sr_cl r + ((sr_ids c').length + 1) + ((sr_ids c).length + 1)
        rw [List.length_append, List.length_cons]
        omega
  · rw [if_neg hd]
    refine sr_lift hb hz zx1 zx2 zx3 (fun a1' a2' a3' a5' a6' a7' a8' a9' hz' ou => ?_)
    dsimp only
    obtain ⟨a', b', e, le⟩ := sr_rot_b d x a b p c
    have es := sr_rot_seq (v := a4) (d := d) (a := a) (b := b) (c := c) zx1 zx2 zx3 zp1 zp2 zp3
    have hb' := sr_b0_z hz hb ou
    have cp := sr_cidp (r := (d', g, c') :: r) e
    rw [e] at hz' es
    refine sr_spl92 hb' hz' zx1 zx2 zx3 (fun a1q a2q a3q a5q a6q a7q a8q a9q a2' b2' hb2 hz3 es2 le2 pp oo => H _ _ _ _ _ _ _ _ a2' b2' hb2 hz3 (es2.trans (by rw [es])) ?_ (pp.trans cp) (sr_out_t ou (sr_out_w oo (fun k hk => cp.mem_iff.mp hk))))
    rw [le2, sr_cl_c d p c, le]
    omega
theorem sr_spl {post : St1 → Prop} {x : Nat} {f1 f2 f3 f4 f5 : Int32} {a4 a10 a11 a12 a13 a14 a15 : Nat → Int32} (zx1 : a10 x = 0) (zx2 : a11 x = 0) (zx3 : a12 x = 0) :
    ∀ (fu : Nat) (c : sr_C) (i : Nat) (a b : sr_T) (a1 a2 a3 a5 a6 a7 a8 a9 : Nat → Int32), c.length < fu → i + c.length ≤ 48 → sr_b0 (f1, f2, f3, f4, f5, a1, a2, a3, a4, a5, a6, a7, a8, a9, a10, a11, a12, a13, a14, a15) → sr_Z (f1, f2, f3, f4, f5, a1, a2, a3, a4, a5, a6, a7, a8, a9, a10, a11, a12, a13, a14, a15) c (.branch x a b) →
    (∀ (a1' a2' a3' a5' a6' a7' a8' a9' : Nat → Int32) (a' b' : sr_T), sr_ok (f1, f2, f3, f4, f5, a1', a2', a3', a4, a5', a6', a7', a8', a9', a10, a11, a12, a13, a14, a15) 0 (.branch x a' b') → sr_seq a4 a10 a11 a12 (.branch x a' b') = sr_cs a4 a10 a11 a12 c (sr_seq a4 a10 a11 a12 (.branch x a b)) → (sr_ids a').length = sr_cl c + (sr_ids a).length → (sr_ids (.branch x a' b')).Perm (sr_ids (.branch x a b) ++ sr_cid c) → sr_out (f1, f2, f3, f4, f5, a1, a2, a3, a4, a5, a6, a7, a8, a9, a10, a11, a12, a13, a14, a15) (f1, f2, f3, f4, f5, a1', a2', a3', a4, a5', a6', a7', a8', a9', a10, a11, a12, a13, a14, a15) (sr_ids (.branch x a b) ++ sr_cid c) → post (f1, f2, f3, f4, f5, a1', a2', a3', a4, a5', a6', a7', a8', a9', a10, a11, a12, a13, a14, a15)) →
    wX_splay_2 post (nI x) fu (nI i) f1 f2 f3 f4 f5 a1 a2 a3 a4 a5 a6 a7 a8 a9 a10 a11 a12 a13 a14 a15 := by
  intro fu
  induction fu with
  | zero => intro c i a b a1 a2 a3 a5 a6 a7 a8 a9 h; exact absurd h (Nat.not_lt_zero _)
  | succ n ih =>
    intro c i a b a1 a2 a3 a5 a6 a7 a8 a9 hf hi hb hz H
    obtain ⟨⟨hx, hl, hr, hu, ha, oa, ob⟩, hc, hn⟩ := id hz
    have x49 : x < 49 := by omega
    have vx := sr_vi x49
    have hu : a3 x = nI (sr_par c) := hu
    rw [wX_splay_2]
    rw [sr_cl0 x49]
    cases c with
    | nil =>
      have fin : post (f1, f2, f3, f4, f5, a1, a2, a3, a4, a5, a6, a7, a8, a9, a10, a11, a12, a13, a14, a15) := by
        refine H a1 a2 a3 a5 a6 a7 a8 a9 a b hz.1 rfl (Nat.zero_add _).symm ?_ (sr_out_r _ _)
        rw [show sr_cid [] = [] from rfl, List.append_nil]
      exact br_c (fun _ => fin) (fun _ => ⟨vx, br_t (hu.trans nI_0) fin⟩)
    | cons f r =>
      obtain ⟨d, p, c⟩ := f
      obtain ⟨hp, gl, gr, gu, ⟨zp1, zp2, zp3⟩, ga, oc, hc2⟩ := id hc
      have p49 : p < 49 := by omega
      have vp := sr_vi p49
      have hu : a3 x = nI p := hu
      have gu : a3 p = nI (sr_par r) := gu
      have hi' : i + (r.length + 1) ≤ 48 := hi
      have hf' : r.length + 1 < n + 1 := hf
      refine br_f (nI_ge (b := 48) (by omega) (by decide)) ⟨vx, br_f (by rw [hu]; exact nI_ne0 (by omega) (by omega)) ⟨vx, nm_r hu ?_⟩⟩
      rw [sr_cl0 p49]
      refine ⟨vp, nm_r gu ?_⟩
      cases r with
      | nil =>
        refine br_t nI_0 (sr_spl92 hb hz zx1 zx2 zx3 (fun a1' a2' a3' a5' a6' a7' a8' a9' a' b' hb' hz' es le pp oo => ?_))
        rw [nI_1]
        refine ih [] (i + 1) a' b' _ _ _ _ _ _ _ _ (by show 0 < n; omega) (by show i + 1 + 0 ≤ 48; omega) hb' hz' (fun a1q a2q a3q a5q a6q a7q a8q a9q a2 b2 k1 k2 k3 k4 k5 => H _ _ _ _ _ _ _ _ a2 b2 k1 (k2.trans (by rw [es]; rfl)) (k3.trans le) (k4.trans pp) (sr_out_t oo (sr_out_w k5 (fun k hk => pp.mem_iff.mp hk))))
      | cons f2 r2 =>
        obtain ⟨d', g, c'⟩ := f2
        obtain ⟨hg, ggl, ggr, ggu, _, _, occ, _⟩ := id hc2
        have g49 : g < 49 := by omega
        have vg := sr_vi g49
        have hi2 : i + (r2.length + 1 + 1) ≤ 48 := hi
        have hf2 : r2.length + 1 + 1 < n + 1 := hf
        have n' : ((sr_ids a ++ x :: sr_ids b) ++ (p :: (sr_ids c ++ (g :: (sr_ids c' ++ sr_cid r2))))).Nodup := hn
        obtain ⟨⟨xA, xB, xO, xC⟩, ⟨pA, pB, pO, pC, pxn⟩, _, _, _, _⟩ := sr_nd5 n'
        show ((nI g) = 0 → _) ∧ (¬ (nI g) = 0 → _)
        refine br_f (nI_ne0 (by omega) (by omega)) ⟨vg, ?_⟩
        show ((a1 (nI g).toNatClampNeg = nI p → _) ∧ (¬ a1 (nI g).toNatClampNeg = nI p → _))
        rw [sr_cl0 g49]
        have go : wX_splay_89 post (wX_splay_2 post (nI x) n) (nI x) (nI i) (nI (if d = d' then p else x)) f1 f2 f3 f4 f5 a1 a2 a3 a4 a5 a6 a7 a8 a9 a10 a11 a12 a13 a14 a15 := by
          refine sr_spl89 hb hz zx1 zx2 zx3 (fun a1' a2' a3' a5' a6' a7' a8' a9' a' b' hb' hz' es le pp oo => ?_)
          rw [nI_1]
          refine ih r2 (i + 1) a' b' _ _ _ _ _ _ _ _ (by omega) (by omega) hb' hz' (fun a1q a2q a3q a5q a6q a7q a8q a9q a2 b2 k1 k2 k3 k4 k5 => H _ _ _ _ _ _ _ _ a2 b2 k1 (k2.trans (by rw [es]; rfl)) (k3.trans le) (k4.trans pp) (sr_out_t oo (sr_out_w k5 (fun k hk => pp.mem_iff.mp hk))))
        have q1 : d' = true → a1 g = nI p := fun z => by rw [z] at ggl; exact ggl
        have q2 : d' = false → ¬ a1 g = nI p := fun z => by
          rw [z] at ggl
          have ggl : a1 g = nI (sr_rt c') := ggl
          rw [ggl, nI_eq (by have := sr_rt_lt occ; omega) (by omega)]
          exact sr_rt_ne (fun w => pC (List.mem_cons_of_mem _ (List.mem_append_left _ w))) hp.1
        have q3 : d = true → a1 p = nI x := fun z => by rw [z] at gl; exact gl
        have q4 : d = false → ¬ a1 p = nI x := fun z => by
          rw [z] at gl
          have gl : a1 p = nI (sr_rt c) := gl
          rw [gl, nI_eq (by have := sr_rt_lt oc; omega) (by omega)]
          exact sr_rt_ne xO hx.1
        cases d' with
        | true =>
          refine br_t (q1 rfl) ?_
          unfold wX_splay_53
          rw [sr_cl0 p49]
          refine ⟨vp, ?_⟩
          cases d with
          | true =>
            refine br_t (q3 rfl) ?_
            unfold wX_splay_68
            refine br_t rfl ?_
            unfold wX_splay_76
            exact br_f (by decide) go
          | false =>
            refine br_f (q4 rfl) ?_
            unfold wX_splay_68
            refine br_f (by decide) ?_
            unfold wX_splay_76
            exact br_t rfl go
        | false =>
          refine br_f (q2 rfl) ?_
          unfold wX_splay_53
          rw [sr_cl0 p49]
          refine ⟨vp, ?_⟩
          cases d with
          | true =>
            refine br_t (q3 rfl) ?_
            unfold wX_splay_68
            refine br_f (by decide) ?_
            unfold wX_splay_76
            exact br_t rfl go
          | false =>
            refine br_f (q4 rfl) ?_
            unfold wX_splay_68
            refine br_t rfl ?_
            unfold wX_splay_76
            exact br_f (by decide) go
theorem sr_splay {post : St1 → Prop} {x : Nat} {c : sr_C} {a b : sr_T} {f1 f2 f3 f4 f5 : Int32} {a1 a2 a3 a4 a5 a6 a7 a8 a9 a10 a11 a12 a13 a14 a15 : Nat → Int32} (zx1 : a10 x = 0) (zx2 : a11 x = 0) (zx3 : a12 x = 0) (hc : c.length ≤ 48) (hb : sr_b0 (f1, f2, f3, f4, f5, a1, a2, a3, a4, a5, a6, a7, a8, a9, a10, a11, a12, a13, a14, a15)) (hz : sr_Z (f1, f2, f3, f4, f5, a1, a2, a3, a4, a5, a6, a7, a8, a9, a10, a11, a12, a13, a14, a15) c (.branch x a b))
    (H : ∀ (a1' a2' a3' a5' a6' a7' a8' a9' : Nat → Int32) (a' b' : sr_T), sr_ok (f1, f2, f3, f4, f5, a1', a2', a3', a4, a5', a6', a7', a8', a9', a10, a11, a12, a13, a14, a15) 0 (.branch x a' b') → sr_seq a4 a10 a11 a12 (.branch x a' b') = sr_cs a4 a10 a11 a12 c (sr_seq a4 a10 a11 a12 (.branch x a b)) → (sr_ids a').length = sr_cl c + (sr_ids a).length → (sr_ids (.branch x a' b')).Perm (sr_ids (.branch x a b) ++ sr_cid c) → sr_out (f1, f2, f3, f4, f5, a1, a2, a3, a4, a5, a6, a7, a8, a9, a10, a11, a12, a13, a14, a15) (f1, f2, f3, f4, f5, a1', a2', a3', a4, a5', a6', a7', a8', a9', a10, a11, a12, a13, a14, a15) (sr_ids (.branch x a b) ++ sr_cid c) → post (f1, f2, f3, f4, f5, a1', a2', a3', a4, a5', a6', a7', a8', a9', a10, a11, a12, a13, a14, a15)) :
    wpX_splay post (f1, f2, f3, f4, f5, a1, a2, a3, a4, a5, a6, a7, a8, a9, a10, a11, a12, a13, a14, a15) (nI x) := by
  unfold wpX_splay
  dsimp only
  exact ⟨49, sr_spl zx1 zx2 zx3 49 c 0 a b _ _ _ _ _ _ _ _ (by omega) (by omega) hb hz H⟩
end
section
/-! bring: down to a place, then splay -/
theorem sr_brl {post : Int32 → St1 → Prop} {f1 f2 f3 f4 f5 : Int32} {a3 a5 a13 a14 a15 : Nat → Int32} :
    ∀ (fu : Nat) (c : sr_C) (i x : Nat) (l r : sr_T) (rest : Nat) (a1 a2 a4 a6 a7 a8 a9 a10 a11 a12 : Nat → Int32), 48 < fu + i → i ≤ 48 → sr_b0 (f1, f2, f3, f4, f5, a1, a2, a3, a4, a5, a6, a7, a8, a9, a10, a11, a12, a13, a14, a15) → sr_Z (f1, f2, f3, f4, f5, a1, a2, a3, a4, a5, a6, a7, a8, a9, a10, a11, a12, a13, a14, a15) c (.branch x l r) → rest < (sr_ids (.branch x l r)).length → ((a10 x = 0 ∧ a11 x = 0 ∧ a12 x = 0 ∧ (sr_ids l).length = rest) ∨ c.length = i) →
    (∀ (a1' a2' a3' a4' a5' a6' a7' a8' a9' a10' a11' a12' : Nat → Int32) (x' : Nat) (a' b' : sr_T), sr_ok (f1, f2, f3, f4, f5, a1', a2', a3', a4', a5', a6', a7', a8', a9', a10', a11', a12', a13, a14, a15) 0 (.branch x' a' b') → a10' x' = 0 → a11' x' = 0 → a12' x' = 0 → sr_seq a4' a10' a11' a12' (.branch x' a' b') = sr_cs a4 a10 a11 a12 c (sr_seq a4 a10 a11 a12 (.branch x l r)) → (sr_ids a').length = sr_cl c + rest → (sr_ids (.branch x' a' b')).Perm (sr_ids (.branch x l r) ++ sr_cid c) → sr_out (f1, f2, f3, f4, f5, a1, a2, a3, a4, a5, a6, a7, a8, a9, a10, a11, a12, a13, a14, a15) (f1, f2, f3, f4, f5, a1', a2', a3', a4', a5', a6', a7', a8', a9', a10', a11', a12', a13, a14, a15) (sr_ids (.branch x l r) ++ sr_cid c) → post (nI x') (f1, f2, f3, f4, f5, a1', a2', a3', a4', a5', a6', a7', a8', a9', a10', a11', a12', a13, a14, a15)) →
    wX_bring_8 post fu (nI x) (nI rest) (nI i) f1 f2 f3 f4 f5 a1 a2 a3 a4 a5 a6 a7 a8 a9 a10 a11 a12 a13 a14 a15 := by
  intro fu
  induction fu with
  | zero => intro c i x l r rest a1 a2 a4 a6 a7 a8 a9 a10 a11 a12 h1 h2; omega
  | succ n ih =>
    intro c i x l r rest a1 a2 a4 a6 a7 a8 a9 a10 a11 a12 hf hi hb hz hr har H
    obtain ⟨okx, hc, hn⟩ := id hz
    have hxx := okx.1
    have x49 : x < 49 := by omega
    have vx := sr_vi x49
    have h48 : (sr_ids (.branch x l r) ++ sr_cid c).length ≤ 48 := sr_ph48 hn (fun k hk => by
      rcases List.mem_append.mp hk with z | z
      · exact sr_rng _ _ okx k z
      · exact sr_crng _ _ _ hc k z)
    rw [List.length_append] at h48
    have hcl := sr_clen c
    rw [wX_bring_8]
    by_cases h : i = 48
    · refine br_t (by rw [h]; exact sr_ler _) ?_
      rcases har with ⟨z1, z2, z3, le⟩ | z
      · refine sr_splay (c := c) (a := l) (b := r) z1 z2 z3 (by omega) hb hz (fun a1' a2' a3' a5' a6' a7' a8' a9' a' b' k1 k2 k3 k4 k5 => ?_)
        dsimp only
        exact H _ _ _ _ _ _ _ _ _ _ _ _ x a' b' k1 z1 z2 z3 k2 (by rw [k3, le]) k4 k5
      · exfalso
        omega
    · refine br_f (nI_ge (b := 48) (by omega) (by decide)) ?_
      have nx : (sr_ids (.branch x l r)).Nodup := (List.nodup_append.mp hn).1
      refine sr_push okx nx (fun a1' a2' a4' a6' a7' a8' a9' a10' a11' a12' l' r' ok' z1 z2 z3 es pl pr ou => ?_)
      dsimp only
      rw [sr_cl0 x49]
      have pp : (sr_ids (.branch x l' r')).Perm (sr_ids (.branch x l r)) := List.Perm.append pl (pr.cons x)
      have hb' : sr_b0 (f1, f2, f3, f4, f5, a1', a2', a3, a4', a5, a6', a7', a8', a9', a10', a11', a12', a13, a14, a15) := sr_b0_o ou (sr_no0 okx) hb
      have dis : ∀ k, k ∈ sr_cid c → k ∉ sr_ids (.branch x l r) := fun k hk z => (List.nodup_append.mp hn).2.2 k z k hk rfl
      have smc : ∀ k, k ∈ sr_cid c → sr_sm (f1, f2, f3, f4, f5, a1, a2, a3, a4, a5, a6, a7, a8, a9, a10, a11, a12, a13, a14, a15) (f1, f2, f3, f4, f5, a1', a2', a3, a4', a5, a6', a7', a8', a9', a10', a11', a12', a13, a14, a15) k := fun k hk => sr_out_sm ou (dis k hk) (by have := sr_crng c _ _ hc k hk; omega)
      have hz' : sr_Z (f1, f2, f3, f4, f5, a1', a2', a3, a4', a5, a6', a7', a8', a9', a10', a11', a12', a13, a14, a15) c (.branch x l' r') := by
        refine ⟨ok', ?_, List.Perm.nodup (pp.symm.append_right (sr_cid c)) hn⟩
        show sr_cok _ c x (sr_seq a4' a10' a11' a12' (.branch x l' r'))
        rw [es]
        exact sr_cok_s c x _ hc smc
      have ecs : ∀ s, sr_cs a4' a10' a11' a12' c s = sr_cs a4 a10 a11 a12 c s := fun s => sr_cs_c (u := (f1, f2, f3, f4, f5, a1, a2, a3, a4, a5, a6, a7, a8, a9, a10, a11, a12, a13, a14, a15)) (u' := (f1, f2, f3, f4, f5, a1', a2', a3, a4', a5, a6', a7', a8', a9', a10', a11', a12', a13, a14, a15)) c s (fun k hk => (smc k hk).1)
      have ouc : sr_out (f1, f2, f3, f4, f5, a1, a2, a3, a4, a5, a6, a7, a8, a9, a10, a11, a12, a13, a14, a15) (f1, f2, f3, f4, f5, a1', a2', a3, a4', a5, a6', a7', a8', a9', a10', a11', a12', a13, a14, a15) (sr_ids (.branch x l r) ++ sr_cid c) := sr_out_w ou (fun k hk => List.mem_append_left _ hk)
      obtain ⟨_, e1, e2, _, _, ol, or⟩ := id ok'
      have e1 : a1' x = nI (sr_rt l') := e1
      have e2 : a2' x = nI (sr_rt r') := e2
      have e5 : a5 (sr_rt l') = nI (sr_ids l').length := by
        have := (sr_ra_ok ol hb').1
        rw [← sr_len a4' a10' a11' a12']
        exact this
      have lel : (sr_ids l').length = (sr_ids l).length := pl.length_eq
      have ler : (sr_ids r').length = (sr_ids r).length := pr.length_eq
      have lex : (sr_ids (.branch x l r)).length = (sr_ids l).length + 1 + (sr_ids r).length := by
        show (sr_ids l ++ x :: sr_ids r).length = _
        rw [List.length_append, List.length_cons]
        omega
      have desc : ∀ (d : Bool) (o : sr_T) (y : Nat) (tl tr : sr_T) (rest' : Nat), sr_plug d x o (.branch y tl tr) = .branch x l' r' → rest' < (sr_ids (.branch y tl tr)).length → sr_cl ((d, x, o) :: c) + rest' = sr_cl c + rest → c.length = i → wX_bring_8 post n (nI y) (nI rest') (nI (i + 1)) f1 f2 f3 f4 f5 a1' a2' a3 a4' a5 a6' a7' a8' a9' a10' a11' a12' a13 a14 a15 := by
        intro d o y tl tr rest' hpl hre hcr hci
        have hz2 : sr_Z (f1, f2, f3, f4, f5, a1', a2', a3, a4', a5, a6', a7', a8', a9', a10', a11', a12', a13, a14, a15) ((d, x, o) :: c) (.branch y tl tr) := sr_zdn (by rw [hpl]; exact hz') ⟨z1, z2, z3⟩
        have p2 : (sr_ids (.branch y tl tr) ++ sr_cid ((d, x, o) :: c)).Perm (sr_ids (.branch x l r) ++ sr_cid c) := by
          refine List.Perm.trans ?_ (pp.append_right (sr_cid c))
          rw [← hpl]
          refine List.Perm.trans ?_ ((sr_plug_ids d x o (.branch y tl tr)).append_right (sr_cid c)).symm
          show (sr_ids (.branch y tl tr) ++ (x :: (sr_ids o ++ sr_cid c))).Perm (sr_ids (.branch y tl tr) ++ (x :: sr_ids o) ++ sr_cid c)
          rw [List.append_assoc, List.cons_append]
        have se : sr_cs a4' a10' a11' a12' ((d, x, o) :: c) (sr_seq a4' a10' a11' a12' (.branch y tl tr)) = sr_cs a4 a10 a11 a12 c (sr_seq a4 a10 a11 a12 (.branch x l r)) := by
          show sr_cs a4' a10' a11' a12' c (sr_fs a4' a10' a11' a12' d x o (sr_seq a4' a10' a11' a12' (.branch y tl tr))) = _
          rw [← sr_plug_seq z1 z2 z3, hpl, es, ecs]
        refine ih ((d, x, o) :: c) (i + 1) y tl tr rest' _ _ _ _ _ _ _ _ _ _ (by omega) (by omega) hb' hz2 hre (Or.inr (by show c.length + 1 = i + 1; omega)) (fun a1q a2q a3q a4q a5q a6q a7q a8q a9q a10q a11q a12q x2 a2 b2 k1 k2 k3 k4 k5 k6 k7 k8 => H _ _ _ _ _ _ _ _ _ _ _ _ x2 a2 b2 k1 k2 k3 k4 (k5.trans se) (k6.trans hcr) (k7.trans p2) (sr_out_t ouc (sr_out_w k8 (fun k hk => p2.mem_iff.mp hk))))
      rw [e1, sr_cl0 (sr_rt_lt ol)]
      refine ⟨vx, sr_vi (sr_rt_lt ol), nm_r e5 ?_⟩
      refine pk_le (sr_ids l').length rest (fun g1 => pk_le rest (sr_ids l').length (fun g2 => nm_r (nI_1 i) ?_) (fun g2 => ?_)) (fun g1 => ⟨vx, nm_e (nm_r (nI_1 i) ?_)⟩)
      · refine ih c (i + 1) x l' r' rest _ _ _ _ _ _ _ _ _ _ (by omega) (by omega) hb' hz' (by rw [pp.length_eq]; exact hr) (Or.inl ⟨z1, z2, z3, by omega⟩) (fun a1q a2q a3q a4q a5q a6q a7q a8q a9q a10q a11q a12q x2 a2 b2 k1 k2 k3 k4 k5 k6 k7 k8 => H _ _ _ _ _ _ _ _ _ _ _ _ x2 a2 b2 k1 k2 k3 k4 (k5.trans (by rw [ecs, es])) k6 (k7.trans (pp.append_right _)) (sr_out_t ouc (sr_out_w k8 (fun k hk => (pp.append_right _).mem_iff.mp hk))))
      · have hci : c.length = i := har.elim (fun z => by have := z.2.2.2; omega) id
        refine nm_r (show nI rest - nI (sr_ids l').length - 1 = nI (rest - (sr_ids l').length - 1) from ?_) ⟨vx, nm_r e2 (nm_r (nI_1 i) ?_)⟩
        · rw [pk_sub (by omega), show rest - (sr_ids l').length = (rest - (sr_ids l').length - 1) + 1 by omega, nI_pred]
          rfl
        · cases r' with
          | leaf _ =>
            exfalso
            have : (sr_ids r).length = 0 := ler.symm
            omega
          | branch y tl tr =>
            refine desc false l' y tl tr _ rfl ?_ ?_ hci
            · omega
            · show sr_cl c + ((sr_ids l').length + 1) + _ = _
              omega
      · have hci : c.length = i := har.elim (fun z => by have := z.2.2.2; omega) id
        cases l' with
        | leaf _ =>
          exfalso
          exact absurd g1 (Nat.not_lt_zero _)
        | branch y tl tr => exact desc true r' y tl tr rest rfl g1 rfl hci
theorem sr_bring {post : Int32 → St1 → Prop} {t : sr_T} {A B : List Int32} {v : Int32} {f1 f2 f3 f4 f5 : Int32} {a1 a2 a3 a4 a5 a6 a7 a8 a9 a10 a11 a12 a13 a14 a15 : Nat → Int32} (hb : sr_b0 (f1, f2, f3, f4, f5, a1, a2, a3, a4, a5, a6, a7, a8, a9, a10, a11, a12, a13, a14, a15)) (ok : sr_ok (f1, f2, f3, f4, f5, a1, a2, a3, a4, a5, a6, a7, a8, a9, a10, a11, a12, a13, a14, a15) 0 t) (n : (sr_ids t).Nodup) (hs : sr_seq a4 a10 a11 a12 t = A ++ v :: B)
    (H : ∀ (a1' a2' a3' a4' a5' a6' a7' a8' a9' a10' a11' a12' : Nat → Int32) (x : Nat) (a' b' : sr_T), sr_ok (f1, f2, f3, f4, f5, a1', a2', a3', a4', a5', a6', a7', a8', a9', a10', a11', a12', a13, a14, a15) 0 (.branch x a' b') → a10' x = 0 → a11' x = 0 → a12' x = 0 → sr_seq a4' a10' a11' a12' a' = A → a4' x = v → sr_seq a4' a10' a11' a12' b' = B → (sr_ids (.branch x a' b')).Perm (sr_ids t) → sr_out (f1, f2, f3, f4, f5, a1, a2, a3, a4, a5, a6, a7, a8, a9, a10, a11, a12, a13, a14, a15) (f1, f2, f3, f4, f5, a1', a2', a3', a4', a5', a6', a7', a8', a9', a10', a11', a12', a13, a14, a15) (sr_ids t) → post (nI x) (f1, f2, f3, f4, f5, a1', a2', a3', a4', a5', a6', a7', a8', a9', a10', a11', a12', a13, a14, a15)) :
    wpX_bring post (f1, f2, f3, f4, f5, a1, a2, a3, a4, a5, a6, a7, a8, a9, a10, a11, a12, a13, a14, a15) (nI (sr_rt t)) (nI A.length) := by
  unfold wpX_bring
  dsimp only
  cases t with
  | leaf _ =>
    exfalso
    have hs : ([] : List Int32) = A ++ v :: B := hs
    cases A <;> cases hs
  | branch x l r =>
    have hl : (sr_ids (.branch x l r)).length = A.length + 1 + B.length := by
      rw [← sr_len a4 a10 a11 a12, hs, List.length_append, List.length_cons]
      omega
    refine ⟨49, sr_brl 49 [] 0 x l r A.length _ _ _ _ _ _ _ _ _ _ (by omega) (by omega) hb ⟨ok, trivial, ?_⟩ (by omega) (Or.inr rfl) (fun a1' a2' a3' a4' a5' a6' a7' a8' a9' a10' a11' a12' x2 a2 b2 k1 k2 k3 k4 k5 k6 k7 k8 => ?_)⟩
    · rw [show sr_cid [] = [] from rfl, List.append_nil]; exact n
    · rw [show sr_cid [] = [] from rfl, List.append_nil] at k7 k8
      have k5 : sr_seq a4' a10' a11' a12' (.branch x2 a2 b2) = A ++ v :: B := k5.trans hs
      rw [sr_seq_z k2 k3 k4] at k5
      have k6 : (sr_ids a2).length = 0 + A.length := k6
      obtain ⟨e1, e2⟩ := List.append_inj k5 (by rw [sr_len]; omega)
      injection e2 with e2 e3
      exact H _ _ _ _ _ _ _ _ _ _ _ _ x2 a2 b2 k1 k2 k3 k4 e1 e2 e3 k7 k8
end
section
/-! part, join, and the two that part and join a row at a stretch -/
theorem sr_part {post : St1 → Prop} {t : sr_T} {A B : List Int32} {f1 f2 f3 f4 f5 : Int32} {a1 a2 a3 a4 a5 a6 a7 a8 a9 a10 a11 a12 a13 a14 a15 : Nat → Int32} (hb : sr_b0 (f1, f2, f3, f4, f5, a1, a2, a3, a4, a5, a6, a7, a8, a9, a10, a11, a12, a13, a14, a15)) (ok : sr_ok (f1, f2, f3, f4, f5, a1, a2, a3, a4, a5, a6, a7, a8, a9, a10, a11, a12, a13, a14, a15) 0 t) (n : (sr_ids t).Nodup) (hs : sr_seq a4 a10 a11 a12 t = A ++ B)
    (H : ∀ (a1' a2' a3' a4' a5' a6' a7' a8' a9' a10' a11' a12' : Nat → Int32) (t1 t2 : sr_T), sr_ok (f1, f2, nI (sr_rt t1), f4, nI (sr_rt t2), a1', a2', a3', a4', a5', a6', a7', a8', a9', a10', a11', a12', a13, a14, a15) 0 t1 → sr_ok (f1, f2, nI (sr_rt t1), f4, nI (sr_rt t2), a1', a2', a3', a4', a5', a6', a7', a8', a9', a10', a11', a12', a13, a14, a15) 0 t2 → sr_seq a4' a10' a11' a12' t1 = A → sr_seq a4' a10' a11' a12' t2 = B → (sr_ids t1 ++ sr_ids t2).Perm (sr_ids t) → sr_out (f1, f2, f3, f4, f5, a1, a2, a3, a4, a5, a6, a7, a8, a9, a10, a11, a12, a13, a14, a15) (f1, f2, nI (sr_rt t1), f4, nI (sr_rt t2), a1', a2', a3', a4', a5', a6', a7', a8', a9', a10', a11', a12', a13, a14, a15) (sr_ids t) → post (f1, f2, nI (sr_rt t1), f4, nI (sr_rt t2), a1', a2', a3', a4', a5', a6', a7', a8', a9', a10', a11', a12', a13, a14, a15)) :
    wpX_part post (f1, f2, f3, f4, f5, a1, a2, a3, a4, a5, a6, a7, a8, a9, a10, a11, a12, a13, a14, a15) (nI (sr_rt t)) (nI A.length) := by
  have lt := sr_rt_lt ok
  have h48 : (A ++ B).length ≤ 48 := by
    rw [← hs, sr_len]
    exact sr_ph48 n (sr_rng t 0 ok)
  rw [List.length_append] at h48
  have e5 : a5 (sr_rt t) = nI (A ++ B).length := by
    have := (sr_ra_ok ok hb).1
    rw [← hs]
    exact this
  have ne0 : ∀ k, k ∈ sr_ids t → k ≠ 0 := fun k hk g => sr_no0 ok (g ▸ hk)
  unfold wpX_part
  dsimp only
  rw [sr_cl0 lt, e5]
  cases A with
  | nil =>
    refine br_t nI_0 (nm_e ?_)
    refine H a1 a2 (upd a3 0 0) a4 a5 a6 a7 a8 a9 a10 a11 a12 sr_lef t trivial (sr_ok_s t 0 ok (fun k hk => ⟨⟨rfl, rfl, rfl, rfl⟩, ⟨rfl, rfl, rfl, rfl⟩, ⟨rfl, rfl⟩, pk_un (ne0 k hk)⟩)) rfl hs (List.Perm.refl _) (fun k hk => ⟨⟨rfl, rfl, rfl, rfl⟩, ⟨rfl, rfl, rfl, rfl⟩, fun h => ⟨⟨rfl, rfl⟩, pk_un h⟩⟩)
  | cons v0 A' =>
    refine br_f (nI_ne0 (by rw [List.length_cons]; omega) (by omega)) ⟨sr_vi lt, ?_⟩
    cases B with
    | nil =>
      refine br_t (by rw [List.append_nil]) (nm_e ?_)
      refine H a1 a2 (upd a3 0 0) a4 a5 a6 a7 a8 a9 a10 a11 a12 t sr_lef (sr_ok_s t 0 ok (fun k hk => ⟨⟨rfl, rfl, rfl, rfl⟩, ⟨rfl, rfl, rfl, rfl⟩, ⟨rfl, rfl⟩, pk_un (ne0 k hk)⟩)) trivial (by rw [hs, List.append_nil]) rfl (by rw [show sr_ids sr_lef = [] from rfl, List.append_nil]) (fun k hk => ⟨⟨rfl, rfl, rfl, rfl⟩, ⟨rfl, rfl, rfl, rfl⟩, fun h => ⟨⟨rfl, rfl⟩, pk_un h⟩⟩)
    | cons v B' =>
      have hbl : (v :: B').length = B'.length + 1 := List.length_cons
      refine br_f ?_ ?_
      · rw [nI_eq (by omega) (by rw [List.length_append]; omega), List.length_append]
        omega
      refine sr_bring hb ok n hs (fun a1' a2' a3' a4' a5' a6' a7' a8' a9' a10' a11' a12' x a' b' k1 z1 z2 z3 s1 s2 s3 pp ou => ?_)
      dsimp only
      obtain ⟨hx, e1, e2, e3, ⟨_, _, _, _, bd⟩, oa, ob⟩ := id k1
      have e1 : a1' x = nI (sr_rt a') := e1
      have e2 : a2' x = nI (sr_rt b') := e2
      have e3 : a3' x = nI 0 := e3
      have x49 : x < 49 := by omega
      have x0 : x ≠ 0 := by omega
      have vx := sr_vi x49
      have nx : (sr_ids (.branch x a' b')).Nodup := List.Perm.nodup pp.symm n
      obtain ⟨xa, xb, na, nb, nab⟩ := sr_ndx nx
      have xra : x ≠ sr_rt a' := fun z => sr_rt_ne xa hx.1 z.symm
      have vb : sr_bv (a4' x) := bd (a4' x) (List.mem_append_right _ List.mem_cons_self)
      have hb1 : sr_b0 (f1, f2, f3, f4, f5, a1', a2', a3', a4', a5', a6', a7', a8', a9', a10', a11', a12', a13, a14, a15) := sr_b0_o ou (sr_no0 ok) hb
      have na0 : ∀ k, k ∈ sr_ids a' → k ≠ 0 := fun k hk g => sr_no0 oa (g ▸ hk)
      have nb0 : ∀ k, k ∈ sr_ids b' → k ≠ 0 := fun k hk g => sr_no0 ob (g ▸ hk)
      have bra : ∀ k, k ∈ sr_ids b' → k ≠ sr_rt a' := fun k hk e => by
        rcases sr_rt_in a' with z | z
        · exact nb0 k hk (e.trans z)
        · exact nab _ z (e ▸ hk)
      rw [sr_cl0 x49]
      refine ⟨vx, nm_r e1 ?_⟩
      rw [sr_cl0 (sr_rt_lt oa)]
      refine ⟨sr_vi (sr_rt_lt oa), nm_e ⟨vx, nm_e ?_⟩⟩
      have sm : ∀ k, k ≠ x → k ≠ sr_rt a' → sr_sm (f1, f2, f3, f4, f5, a1', a2', a3', a4', a5', a6', a7', a8', a9', a10', a11', a12', a13, a14, a15) (f1, f2, nI (sr_rt a'), f4, f5, upd a1' x 0, a2', upd a3' (sr_rt a') 0, a4', a5', a6', a7', a8', a9', a10', a11', a12', a13, a14, a15) k := fun k h1 h2 => ⟨⟨rfl, rfl, rfl, rfl⟩, ⟨rfl, rfl, rfl, rfl⟩, ⟨pk_un h1, rfl⟩, pk_un h2⟩
      have ob1 : sr_ok (f1, f2, nI (sr_rt a'), f4, f5, upd a1' x 0, a2', upd a3' (sr_rt a') 0, a4', a5', a6', a7', a8', a9', a10', a11', a12', a13, a14, a15) x b' := sr_ok_s b' x ob (fun k hk => sm k (fun z => xb (z ▸ hk)) (bra k hk))
      refine sr_pullT (q := 0) (l := sr_lef) (r := b') hb1 hx pk_us e2 (by rw [pk_un xra]; exact e3) z1 z2 z3 trivial ob1 List.not_mem_nil xb vb (fun a5q a6q a7q a8q a9q k2 eB => ?_)
      dsimp only
      refine nm_e ?_
      have pa : (sr_ids a' ++ sr_ids (.branch x sr_lef b')).Perm (sr_ids t) := pp
      refine H (upd a1' x 0) a2' (upd (upd a3' (sr_rt a') 0) 0 0) a4' a5q a6q a7q a8q a9q a10' a11' a12' a' (.branch x sr_lef b') ?_ ?_ s1 ?_ pa ?_
      · refine sr_ok_p oa na (fun k hk => ⟨⟨rfl, rfl, rfl, rfl⟩, eB k (fun z => xa (z ▸ hk)), ⟨pk_un (fun z => xa (z ▸ hk)), rfl⟩⟩) (fun k hk h => ?_) (fun h => ?_)
        · show upd (upd a3' (sr_rt a') 0) 0 0 k = a3' k
          rw [pk_un (na0 k hk), pk_un h]
        · show upd (upd a3' (sr_rt a') 0) 0 0 (sr_rt a') = nI 0
          rw [pk_un h, pk_us]
          rfl
      · refine sr_ok_s _ 0 k2 (fun k hk => ⟨⟨rfl, rfl, rfl, rfl⟩, ⟨rfl, rfl, rfl, rfl⟩, ⟨rfl, rfl⟩, pk_un ?_⟩)
        rcases List.mem_cons.mp (show k ∈ x :: sr_ids b' from hk) with z | z
        · rw [z]; exact x0
        · exact nb0 k z
      · rw [sr_seq_z z1 z2 z3, s2, s3]
        rfl
      · intro k hk
        have hk' : k ∉ sr_ids (.branch x a' b') := fun z => hk (pp.mem_iff.mp z)
        have kx : k ≠ x := fun e => hk' (e ▸ sr_xin x a' b')
        obtain ⟨g1, g2, g3⟩ := ou k hk
        refine ⟨g1, sr_eB_t g2 (eB k kx), fun k0 => ?_⟩
        obtain ⟨g4, g5⟩ := g3 k0
        refine ⟨⟨(pk_un kx).trans g4.1, g4.2⟩, ?_⟩
        show upd (upd a3' (sr_rt a') 0) 0 0 k = a3 k
        rw [pk_un k0, pk_un]
        · exact g5
        · intro e
          rcases sr_rt_in a' with z | z
          · exact k0 (e.trans z)
          · exact hk' (sr_lin (e ▸ z))
theorem sr_join {post : Int32 → St1 → Prop} {t1 t2 : sr_T} {f1 f2 f3 f4 f5 : Int32} {a1 a2 a3 a4 a5 a6 a7 a8 a9 a10 a11 a12 a13 a14 a15 : Nat → Int32} (hb : sr_b0 (f1, f2, f3, f4, f5, a1, a2, a3, a4, a5, a6, a7, a8, a9, a10, a11, a12, a13, a14, a15)) (ok1 : sr_ok (f1, f2, f3, f4, f5, a1, a2, a3, a4, a5, a6, a7, a8, a9, a10, a11, a12, a13, a14, a15) 0 t1) (ok2 : sr_ok (f1, f2, f3, f4, f5, a1, a2, a3, a4, a5, a6, a7, a8, a9, a10, a11, a12, a13, a14, a15) 0 t2) (n : (sr_ids t1 ++ sr_ids t2).Nodup)
    (H : ∀ (a1' a2' a3' a4' a5' a6' a7' a8' a9' a10' a11' a12' : Nat → Int32) (t : sr_T), sr_ok (f1, f2, f3, f4, f5, a1', a2', a3', a4', a5', a6', a7', a8', a9', a10', a11', a12', a13, a14, a15) 0 t → sr_seq a4' a10' a11' a12' t = sr_seq a4 a10 a11 a12 t1 ++ sr_seq a4 a10 a11 a12 t2 → (sr_ids t).Perm (sr_ids t1 ++ sr_ids t2) → sr_out (f1, f2, f3, f4, f5, a1, a2, a3, a4, a5, a6, a7, a8, a9, a10, a11, a12, a13, a14, a15) (f1, f2, f3, f4, f5, a1', a2', a3', a4', a5', a6', a7', a8', a9', a10', a11', a12', a13, a14, a15) (sr_ids t1 ++ sr_ids t2) → post (nI (sr_rt t)) (f1, f2, f3, f4, f5, a1', a2', a3', a4', a5', a6', a7', a8', a9', a10', a11', a12', a13, a14, a15)) :
    wpX_join post (f1, f2, f3, f4, f5, a1, a2, a3, a4, a5, a6, a7, a8, a9, a10, a11, a12, a13, a14, a15) (nI (sr_rt t1)) (nI (sr_rt t2)) := by
  have lt1 := sr_rt_lt ok1
  have lt2 := sr_rt_lt ok2
  cases t1 with
  | leaf _ =>
    unfold wpX_join
    dsimp only
    exact br_t nI_0 (H _ _ _ _ _ _ _ _ _ _ _ _ t2 ok2 rfl (List.Perm.refl _) (sr_out_r _ _))
  | branch x1 l1 r1 =>
    have hx1 := ok1.1
    have nx1 : ¬ nI x1 = 0 := nI_ne0 (by omega) (by omega)
    cases t2 with
    | leaf _ =>
      show wpX_join post (f1, f2, f3, f4, f5, a1, a2, a3, a4, a5, a6, a7, a8, a9, a10, a11, a12, a13, a14, a15) (nI x1) (nI 0)
      unfold wpX_join
      dsimp only
      refine br_f nx1 ?_
      refine br_t nI_0 (H _ _ _ _ _ _ _ _ _ _ _ _ (.branch x1 l1 r1) ok1 ?_ ?_ (sr_out_r _ _))
      · exact (List.append_nil _).symm
      · rw [show sr_ids (Lean.RArray.leaf _) = [] from rfl, List.append_nil]
    | branch x2 l2 r2 =>
      have hx2 := ok2.1
      show wpX_join post (f1, f2, f3, f4, f5, a1, a2, a3, a4, a5, a6, a7, a8, a9, a10, a11, a12, a13, a14, a15) (nI x1) (nI x2)
      unfold wpX_join
      dsimp only
      refine br_f nx1 ?_
      refine br_f (nI_ne0 (by omega) (by omega)) ?_
      have x149 : x1 < 49 := by omega
      rw [sr_cl0 x149]
      refine ⟨sr_vi x149, ?_⟩
      obtain ⟨n1, n2, n12⟩ := List.nodup_append.mp n
      have hne : sr_seq a4 a10 a11 a12 (.branch x1 l1 r1) ≠ [] := fun z => by
        have := congrArg List.length z
        rw [sr_len] at this
        have : (sr_ids l1 ++ x1 :: sr_ids r1).length = 0 := this
        rw [List.length_append, List.length_cons] at this
        omega
      have hsp := (List.dropLast_concat_getLast hne).symm
      have e5 : a5 x1 - 1 = nI (sr_seq a4 a10 a11 a12 (.branch x1 l1 r1)).dropLast.length := by
        have h := (sr_ra_ok ok1 hb).1
        have h : a5 x1 = nI (sr_seq a4 a10 a11 a12 (.branch x1 l1 r1)).length := h
        have hp : 0 < (sr_seq a4 a10 a11 a12 (.branch x1 l1 r1)).length := List.length_pos_iff.mpr hne
        rw [h, List.length_dropLast]
        rw [show (sr_seq a4 a10 a11 a12 (.branch x1 l1 r1)).length = ((sr_seq a4 a10 a11 a12 (.branch x1 l1 r1)).length - 1) + 1 by omega, nI_pred]
        rfl
      rw [e5]
      refine sr_bring (t := .branch x1 l1 r1) hb ok1 n1 hsp (fun a1' a2' a3' a4' a5' a6' a7' a8' a9' a10' a11' a12' x a' b' k1 z1 z2 z3 s1 s2 s3 pp ou => ?_)
      dsimp only
      obtain ⟨hx, e1, e2, e3, ⟨_, _, _, _, bd⟩, oa, ob⟩ := id k1
      have e1 : a1' x = nI (sr_rt a') := e1
      have e3 : a3' x = nI 0 := e3
      have x49 : x < 49 := by omega
      have x0 : x ≠ 0 := by omega
      have vx := sr_vi x49
      have nx : (sr_ids (.branch x a' b')).Nodup := List.Perm.nodup pp.symm n1
      obtain ⟨xa, xb, na, nb, nab⟩ := sr_ndx nx
      have vb : sr_bv (a4' x) := bd (a4' x) (List.mem_append_right _ List.mem_cons_self)
      have hb1 : sr_b0 (f1, f2, f3, f4, f5, a1', a2', a3', a4', a5', a6', a7', a8', a9', a10', a11', a12', a13, a14, a15) := sr_b0_o ou (sr_no0 ok1) hb
      have b0 : sr_ids b' = [] := List.length_eq_zero_iff.mp (by rw [← sr_len a4' a10' a11' a12', s3]; rfl)
      have x249 : x2 < 49 := by omega
      have d2 : ∀ k, k ∈ sr_ids (.branch x2 l2 r2) → k ∉ sr_ids (.branch x1 l1 r1) := fun k hk z => n12 k z k hk rfl
      obtain ⟨ok2', s2'⟩ := sr_keep ok2 ou d2
      have s2' : sr_seq a4' a10' a11' a12' (.branch x2 l2 r2) = sr_seq a4 a10 a11 a12 (.branch x2 l2 r2) := s2'
      have x2in : x ∈ sr_ids (.branch x1 l1 r1) := pp.mem_iff.mp (sr_xin x a' b')
      have xt2 : x ∉ sr_ids (.branch x2 l2 r2) := fun z => d2 x z x2in
      have xx2 : x ≠ x2 := fun z => xt2 (z ▸ sr_xin x2 l2 r2)
      have ain : ∀ k, k ∈ sr_ids a' → k ∈ sr_ids (.branch x1 l1 r1) := fun k hk => pp.mem_iff.mp (sr_lin hk)
      have ax2 : ∀ k, k ∈ sr_ids a' → k ≠ x2 := fun k hk z => d2 x2 (sr_xin x2 l2 r2) (z ▸ ain k hk)
      unfold wpX_setRight
      dsimp only
      show vp_in (nI x) 49 ∧ _
      rw [sr_cl0 x49]
      refine ⟨vx, nm_e ?_⟩
      show vp_in (nI x2) 49 ∧ _
      rw [sr_cl0 x249]
      refine ⟨sr_vi x249, nm_e ?_⟩
      have oa1 : sr_ok (f1, f2, f3, f4, f5, a1', upd a2' x (nI x2), upd a3' x2 (nI x), a4', a5', a6', a7', a8', a9', a10', a11', a12', a13, a14, a15) x a' := sr_ok_s a' x oa (fun k hk => ⟨⟨rfl, rfl, rfl, rfl⟩, ⟨rfl, rfl, rfl, rfl⟩, ⟨rfl, pk_un (fun z => xa (z ▸ hk))⟩, pk_un (ax2 k hk)⟩)
      have ot1 : sr_ok (f1, f2, f3, f4, f5, a1', upd a2' x (nI x2), upd a3' x2 (nI x), a4', a5', a6', a7', a8', a9', a10', a11', a12', a13, a14, a15) x (.branch x2 l2 r2) := sr_ok_p ok2' n2 (fun k hk => ⟨⟨rfl, rfl, rfl, rfl⟩, ⟨rfl, rfl, rfl, rfl⟩, ⟨rfl, pk_un (fun z => xt2 (z ▸ hk))⟩⟩) (fun k hk h => pk_un h) (fun _ => pk_us)
      refine sr_pullT (q := 0) (l := a') (r := .branch x2 l2 r2) hb1 hx e1 pk_us (by rw [pk_un xx2]; exact e3) z1 z2 z3 oa1 ot1 xa xt2 vb (fun a5q a6q a7q a8q a9q k2 eB => ?_)
      dsimp only
      have pn : (sr_ids a' ++ [x]).Perm (sr_ids (.branch x1 l1 r1)) := by
        have : (sr_ids a' ++ x :: sr_ids b').Perm (sr_ids (.branch x1 l1 r1)) := pp
        rw [b0] at this
        exact this
      refine H _ _ _ _ _ _ _ _ _ _ _ _ (.branch x a' (.branch x2 l2 r2)) k2 ?_ ?_ ?_
      · rw [sr_seq_z z1 z2 z3, s1, s2, s2']
        conv => rhs; rw [hsp]
        rw [List.append_assoc]
        rfl
      · have := pn.append_right (sr_ids (.branch x2 l2 r2))
        rw [List.append_assoc] at this
        exact this
      · intro k hk
        have hk1 : k ∉ sr_ids (.branch x1 l1 r1) := fun z => hk (List.mem_append_left _ z)
        have kx : k ≠ x := fun e => hk1 (e ▸ x2in)
        have kx2 : k ≠ x2 := fun e => hk (List.mem_append_right _ (e ▸ sr_xin x2 l2 r2))
        obtain ⟨g1, g2, g3⟩ := ou k hk1
        refine ⟨g1, sr_eB_t g2 (eB k kx), fun k0 => ?_⟩
        obtain ⟨g4, g5⟩ := g3 k0
        exact ⟨⟨g4.1, (pk_un kx).trans g4.2⟩, (pk_un kx2).trans g5⟩
end
section
/-! the row parted at a stretch, and joined again -/
theorem sr_opn {post : St1 → Prop} {t : sr_T} {A M B : List Int32} {f1 f2 f3 f4 f5 : Int32} {a1 a2 a3 a4 a5 a6 a7 a8 a9 a10 a11 a12 a13 a14 a15 : Nat → Int32} (hr : f1 = nI (sr_rt t)) (hb : sr_b0 (f1, f2, f3, f4, f5, a1, a2, a3, a4, a5, a6, a7, a8, a9, a10, a11, a12, a13, a14, a15)) (ok : sr_ok (f1, f2, f3, f4, f5, a1, a2, a3, a4, a5, a6, a7, a8, a9, a10, a11, a12, a13, a14, a15) 0 t) (n : (sr_ids t).Nodup) (hs : sr_seq a4 a10 a11 a12 t = A ++ M ++ B)
    (H : ∀ (a1' a2' a3' a4' a5' a6' a7' a8' a9' a10' a11' a12' : Nat → Int32) (t1 t2 t3 : sr_T), sr_b0 (f1, f2, nI (sr_rt t1), nI (sr_rt t2), nI (sr_rt t3), a1', a2', a3', a4', a5', a6', a7', a8', a9', a10', a11', a12', a13, a14, a15) → sr_ok (f1, f2, nI (sr_rt t1), nI (sr_rt t2), nI (sr_rt t3), a1', a2', a3', a4', a5', a6', a7', a8', a9', a10', a11', a12', a13, a14, a15) 0 t1 → sr_ok (f1, f2, nI (sr_rt t1), nI (sr_rt t2), nI (sr_rt t3), a1', a2', a3', a4', a5', a6', a7', a8', a9', a10', a11', a12', a13, a14, a15) 0 t2 → sr_ok (f1, f2, nI (sr_rt t1), nI (sr_rt t2), nI (sr_rt t3), a1', a2', a3', a4', a5', a6', a7', a8', a9', a10', a11', a12', a13, a14, a15) 0 t3 → sr_seq a4' a10' a11' a12' t1 = A → sr_seq a4' a10' a11' a12' t2 = M → sr_seq a4' a10' a11' a12' t3 = B → (sr_ids t1 ++ sr_ids t2 ++ sr_ids t3).Perm (sr_ids t) → sr_out (f1, f2, f3, f4, f5, a1, a2, a3, a4, a5, a6, a7, a8, a9, a10, a11, a12, a13, a14, a15) (f1, f2, nI (sr_rt t1), nI (sr_rt t2), nI (sr_rt t3), a1', a2', a3', a4', a5', a6', a7', a8', a9', a10', a11', a12', a13, a14, a15) (sr_ids t) → post (f1, f2, nI (sr_rt t1), nI (sr_rt t2), nI (sr_rt t3), a1', a2', a3', a4', a5', a6', a7', a8', a9', a10', a11', a12', a13, a14, a15)) :
    wpX_open post (f1, f2, f3, f4, f5, a1, a2, a3, a4, a5, a6, a7, a8, a9, a10, a11, a12, a13, a14, a15) (nI A.length) (nI (A.length + M.length)) := by
  unfold wpX_open
  dsimp only
  subst hr
  rw [← List.length_append]
  refine sr_part hb ok n hs (fun a1' a2' a3' a4' a5' a6' a7' a8' a9' a10' a11' a12' t12 t3 o12 o3 s12 s3 p1 u1 => ?_)
  dsimp only
  have n1 : (sr_ids t12 ++ sr_ids t3).Nodup := List.Perm.nodup p1.symm n
  obtain ⟨n12, n3, nd⟩ := List.nodup_append.mp n1
  have hb1 := sr_b0_o u1 (sr_no0 ok) hb
  refine sr_part hb1 o12 n12 s12 (fun a1q a2q a3q a4q a5q a6q a7q a8q a9q a10q a11q a12q t1 t2 o1 o2 s1 s2 p2 u2 => ?_)
  dsimp only
  have hb2 := sr_b0_o u2 (sr_no0 o12) hb1
  obtain ⟨o3', s3'⟩ := sr_keep o3 u2 (fun k hk z => nd k z k hk rfl)
  have sub : ∀ k, k ∈ sr_ids t12 → k ∈ sr_ids t := fun k hk => p1.mem_iff.mp (List.mem_append_left _ hk)
  have u3 := sr_out_t u1 (sr_out_w u2 sub)
  refine H _ _ _ _ _ _ _ _ _ _ _ _ t1 t2 t3 hb2 ?_ ?_ ?_ s1 s2 (Eq.trans s3' s3) ((p2.append_right (sr_ids t3)).trans p1) u3
  · exact sr_ok_s _ _ o1 (fun k _ => ⟨⟨rfl, rfl, rfl, rfl⟩, ⟨rfl, rfl, rfl, rfl⟩, ⟨rfl, rfl⟩, rfl⟩)
  · exact sr_ok_s _ _ o2 (fun k _ => ⟨⟨rfl, rfl, rfl, rfl⟩, ⟨rfl, rfl, rfl, rfl⟩, ⟨rfl, rfl⟩, rfl⟩)
  · exact sr_ok_s _ _ o3' (fun k _ => ⟨⟨rfl, rfl, rfl, rfl⟩, ⟨rfl, rfl, rfl, rfl⟩, ⟨rfl, rfl⟩, rfl⟩)
theorem sr_cls {post : St1 → Prop} {t1 t2 t3 : sr_T} {f1 f2 f3 f4 f5 : Int32} {a1 a2 a3 a4 a5 a6 a7 a8 a9 a10 a11 a12 a13 a14 a15 : Nat → Int32} (h3 : f3 = nI (sr_rt t1)) (h4 : f4 = nI (sr_rt t2)) (h5 : f5 = nI (sr_rt t3)) (hb : sr_b0 (f1, f2, f3, f4, f5, a1, a2, a3, a4, a5, a6, a7, a8, a9, a10, a11, a12, a13, a14, a15)) (ok1 : sr_ok (f1, f2, f3, f4, f5, a1, a2, a3, a4, a5, a6, a7, a8, a9, a10, a11, a12, a13, a14, a15) 0 t1) (ok2 : sr_ok (f1, f2, f3, f4, f5, a1, a2, a3, a4, a5, a6, a7, a8, a9, a10, a11, a12, a13, a14, a15) 0 t2) (ok3 : sr_ok (f1, f2, f3, f4, f5, a1, a2, a3, a4, a5, a6, a7, a8, a9, a10, a11, a12, a13, a14, a15) 0 t3) (n : (sr_ids t1 ++ sr_ids t2 ++ sr_ids t3).Nodup)
    (H : ∀ (a1' a2' a3' a4' a5' a6' a7' a8' a9' a10' a11' a12' : Nat → Int32) (t : sr_T), sr_b0 (nI (sr_rt t), f2, f3, f4, f5, a1', a2', a3', a4', a5', a6', a7', a8', a9', a10', a11', a12', a13, a14, a15) → sr_ok (nI (sr_rt t), f2, f3, f4, f5, a1', a2', a3', a4', a5', a6', a7', a8', a9', a10', a11', a12', a13, a14, a15) 0 t → sr_seq a4' a10' a11' a12' t = sr_seq a4 a10 a11 a12 t1 ++ sr_seq a4 a10 a11 a12 t2 ++ sr_seq a4 a10 a11 a12 t3 → (sr_ids t).Perm (sr_ids t1 ++ sr_ids t2 ++ sr_ids t3) → sr_out (f1, f2, f3, f4, f5, a1, a2, a3, a4, a5, a6, a7, a8, a9, a10, a11, a12, a13, a14, a15) (nI (sr_rt t), f2, f3, f4, f5, a1', a2', a3', a4', a5', a6', a7', a8', a9', a10', a11', a12', a13, a14, a15) (sr_ids t1 ++ sr_ids t2 ++ sr_ids t3) → post (nI (sr_rt t), f2, f3, f4, f5, a1', a2', a3', a4', a5', a6', a7', a8', a9', a10', a11', a12', a13, a14, a15)) :
    wpX_close post (f1, f2, f3, f4, f5, a1, a2, a3, a4, a5, a6, a7, a8, a9, a10, a11, a12, a13, a14, a15) := by
  subst h3
  subst h4
  subst h5
  unfold wpX_close
  dsimp only
  obtain ⟨n12, n3, nd⟩ := List.nodup_append.mp n
  refine sr_join hb ok1 ok2 n12 (fun a1' a2' a3' a4' a5' a6' a7' a8' a9' a10' a11' a12' t12 o12 s12 p12 u1 => ?_)
  dsimp only
  have z12 : 0 ∉ sr_ids t1 ++ sr_ids t2 := fun z => (List.mem_append.mp z).elim (sr_no0 ok1) (sr_no0 ok2)
  have hb1 := sr_b0_o u1 z12 hb
  obtain ⟨o3, s3⟩ := sr_keep ok3 u1 (fun k hk z => nd k z k hk rfl)
  have s3 : sr_seq a4' a10' a11' a12' t3 = sr_seq a4 a10 a11 a12 t3 := s3
  have n1 : (sr_ids t12 ++ sr_ids t3).Nodup := List.Perm.nodup (p12.append_right _).symm n
  refine sr_join hb1 o12 o3 n1 (fun a1q a2q a3q a4q a5q a6q a7q a8q a9q a10q a11q a12q t o s p u2 => ?_)
  dsimp only
  have lt := sr_rt_lt o
  rw [sr_cl0 lt]
  refine ⟨sr_vi lt, nm_e ?_⟩
  have z123 : 0 ∉ sr_ids t12 ++ sr_ids t3 := fun z => (List.mem_append.mp z).elim (sr_no0 o12) (sr_no0 o3)
  have hb2 := sr_b0_o u2 z123 hb1
  have pp := p.trans (p12.append_right (sr_ids t3))
  have nt : (sr_ids t).Nodup := List.Perm.nodup pp.symm n
  refine H _ _ _ _ _ _ _ _ _ _ _ _ t hb2 ?_ ?_ pp ?_
  · refine sr_ok_p o nt (fun k _ => ⟨⟨rfl, rfl, rfl, rfl⟩, ⟨rfl, rfl, rfl, rfl⟩, ⟨rfl, rfl⟩⟩) (fun k _ h => pk_un h) (fun _ => pk_us)
  · rw [s, s12, s3]
  · intro k hk
    have hk1 : k ∉ sr_ids t1 ++ sr_ids t2 := fun z => hk (List.mem_append_left _ z)
    have hk2 : k ∉ sr_ids t12 ++ sr_ids t3 := fun z => hk ((p12.append_right _).mem_iff.mp z)
    obtain ⟨g1, g2, g3⟩ := u1 k hk1
    obtain ⟨g4, g5, g6⟩ := u2 k hk2
    refine ⟨sr_eF_t g1 g4, sr_eB_t g2 g5, fun k0 => ⟨sr_eL_t (g3 k0).1 (g6 k0).1, ?_⟩⟩
    have kt : k ≠ sr_rt t := fun e => by
      rcases sr_rt_in t with z | z
      · exact k0 (e.trans z)
      · exact hk (pp.mem_iff.mp (e ▸ z))
    exact (pk_un kt).trans (sr_eU_t (g3 k0).2 (g6 k0).2)
end
section
/-! make and release: the nodes -/
theorem sr_mkl {post : Int32 → St1 → Prop} {v : Int32} {f1 f2 f3 f4 f5 : Int32} {a1 a2 a3 a4 a5 a6 a7 a8 a9 a10 a11 a12 a13 a14 a15 : Nat → Int32} (hb : sr_b0 (f1, f2, f3, f4, f5, a1, a2, a3, a4, a5, a6, a7, a8, a9, a10, a11, a12, a13, a14, a15)) (hv : sr_bv v)
    (H : ∀ (x : Nat) (a1' a2' a3' a4' a5' a6' a7' a8' a9' a10' a11' a12' : Nat → Int32), 1 ≤ x ∧ x ≤ 48 → a13 x = 0 → sr_ok (f1, f2, f3, f4, f5, a1', a2', a3', a4', a5', a6', a7', a8', a9', a10', a11', a12', upd a13 x 1, a14, a15) 0 (.branch x sr_lef sr_lef) → sr_seq a4' a10' a11' a12' (.branch x sr_lef sr_lef) = [v] → sr_out (f1, f2, f3, f4, f5, a1, a2, a3, a4, a5, a6, a7, a8, a9, a10, a11, a12, a13, a14, a15) (f1, f2, f3, f4, f5, a1', a2', a3', a4', a5', a6', a7', a8', a9', a10', a11', a12', upd a13 x 1, a14, a15) [x] → post (nI x) (f1, f2, f3, f4, f5, a1', a2', a3', a4', a5', a6', a7', a8', a9', a10', a11', a12', upd a13 x 1, a14, a15)) :
    ∀ (fu k y : Nat), k < fu → k ≤ 48 → 1 ≤ y ∧ y ≤ 48 → (a13 y = 0 ∨ ∃ j, 1 ≤ j ∧ j ≤ k ∧ a13 j = 0) → wX_make_5 post v f1 f2 f3 f4 f5 a1 a2 a3 a4 a5 a6 a7 a8 a9 a10 a11 a12 a13 a14 a15 fu (nI y) (nI k) := by
  intro fu
  induction fu with
  | zero => intro k y h; exact absurd h (Nat.not_lt_zero _)
  | succ n ih =>
    intro k y hf hk hy hfree
    have y49 : y < 49 := by omega
    have vy := sr_vi y49
    rw [wX_make_5]
    cases k with
    | zero =>
      have f0 : a13 y = 0 := hfree.elim id (fun ⟨j, h1, h2, _⟩ => by omega)
      refine br_t (by rw [nI_0]; exact sr_ler 0) ?_
      rw [sr_cl0 y49]
      refine ⟨vy, nm_e ⟨vy, nm_e ⟨vy, nm_e ⟨vy, nm_e ⟨vy, nm_e ⟨vy, nm_e ⟨vy, nm_e ⟨vy, nm_e ?_⟩⟩⟩⟩⟩⟩⟩⟩
      have hv' : sr_bv (upd a4 y v y) := by rw [pk_us]; exact hv
      refine sr_pullT (q := 0) (l := sr_lef) (r := sr_lef) hb hy pk_us pk_us pk_us pk_us pk_us pk_us trivial trivial List.not_mem_nil List.not_mem_nil hv' (fun a5' a6' a7' a8' a9' k1 eB => ?_)
      dsimp only
      refine H y _ _ _ _ _ _ _ _ _ _ _ _ hy f0 k1 ?_ (fun k hk => ?_)
      · rw [sr_seq_z pk_us pk_us pk_us, pk_us]
        rfl
      · have ky : k ≠ y := fun e => hk (e ▸ List.mem_cons_self)
        exact ⟨⟨pk_un ky, pk_un ky, pk_un ky, pk_un ky⟩, eB k ky, fun _ => ⟨⟨pk_un ky, pk_un ky⟩, pk_un ky⟩⟩
    | succ k =>
      have k49 : k + 1 < 49 := by omega
      refine br_f (nI_nle (by omega) (by omega)) ⟨sr_vi k49, ?_⟩
      rw [sr_cl0 k49]
      refine br_c (fun g => nm_r (pk_m1 k) (ih k (k + 1) (by omega) (by omega) (by omega) (Or.inl g))) (fun g => nm_r (pk_m1 k) (ih k y (by omega) (by omega) hy ?_))
      rcases hfree with h | ⟨j, h1, h2, h3⟩
      · exact Or.inl h
      · refine Or.inr ⟨j, h1, ?_, h3⟩
        have : j ≠ k + 1 := fun e => g (e ▸ h3)
        omega
theorem sr_make {post : Int32 → St1 → Prop} {v : Int32} {f1 f2 f3 f4 f5 : Int32} {a1 a2 a3 a4 a5 a6 a7 a8 a9 a10 a11 a12 a13 a14 a15 : Nat → Int32} (hb : sr_b0 (f1, f2, f3, f4, f5, a1, a2, a3, a4, a5, a6, a7, a8, a9, a10, a11, a12, a13, a14, a15)) (hv : sr_bv v) (hf : ∃ j, 1 ≤ j ∧ j ≤ 48 ∧ a13 j = 0)
    (H : ∀ (x : Nat) (a1' a2' a3' a4' a5' a6' a7' a8' a9' a10' a11' a12' : Nat → Int32), 1 ≤ x ∧ x ≤ 48 → a13 x = 0 → sr_ok (f1, f2, f3, f4, f5, a1', a2', a3', a4', a5', a6', a7', a8', a9', a10', a11', a12', upd a13 x 1, a14, a15) 0 (.branch x sr_lef sr_lef) → sr_seq a4' a10' a11' a12' (.branch x sr_lef sr_lef) = [v] → sr_out (f1, f2, f3, f4, f5, a1, a2, a3, a4, a5, a6, a7, a8, a9, a10, a11, a12, a13, a14, a15) (f1, f2, f3, f4, f5, a1', a2', a3', a4', a5', a6', a7', a8', a9', a10', a11', a12', upd a13 x 1, a14, a15) [x] → post (nI x) (f1, f2, f3, f4, f5, a1', a2', a3', a4', a5', a6', a7', a8', a9', a10', a11', a12', upd a13 x 1, a14, a15)) :
    wpX_make post (f1, f2, f3, f4, f5, a1, a2, a3, a4, a5, a6, a7, a8, a9, a10, a11, a12, a13, a14, a15) v := by
  unfold wpX_make
  dsimp only
  exact ⟨49, sr_mkl hb hv H 49 48 1 (by omega) (by omega) (by omega) (Or.inr hf)⟩
def sr_fids : List sr_T → List Nat
  | [] => []
  | t :: ts => sr_ids t ++ sr_fids ts
def sr_stk (s : Nat → Int32) : List sr_T → Prop
  | [] => True
  | t :: ts => s ts.length = nI (sr_rt t) ∧ sr_stk s ts
theorem sr_stk_c {s s' : Nat → Int32} : ∀ (ts : List sr_T), sr_stk s ts → (∀ j, j < ts.length → s' j = s j) → sr_stk s' ts := by
  intro ts
  induction ts with
  | nil => intro _ _; exact trivial
  | cons t ts ih =>
    intro h g
    refine ⟨(g _ (by show ts.length < ts.length + 1; omega)).trans h.1, ih h.2 (fun j hj => g j (by show j < ts.length + 1; omega))⟩
def sr_stt (u : St1) (ts : List sr_T) : Prop := ∀ t, t ∈ ts → (∃ p, sr_ok u p t) ∧ 0 < (sr_ids t).length
theorem sr_fids_len {u : St1} : ∀ (ts : List sr_T), sr_stt u ts → ts.length ≤ (sr_fids ts).length := by
  intro ts
  induction ts with
  | nil => intro _; exact Nat.le_refl 0
  | cons t ts ih =>
    intro h
    have h1 := (h t List.mem_cons_self).2
    have h2 := ih (fun x hx => h x (List.mem_cons_of_mem _ hx))
    show ts.length + 1 ≤ (sr_ids t ++ sr_fids ts).length
    rw [List.length_append]
    omega
theorem sr_rel {post : St1 → Prop} {t0 : sr_T} {f1 f2 f3 f4 f5 : Int32} {a1 a2 a3 a4 a5 a6 a7 a8 a9 a10 a11 a12 a13 a14 a15 : Nat → Int32} (H : ∀ b13 b14 : Nat → Int32, (∀ k, k ∉ sr_ids t0 → b13 k = a13 k) → (∀ k, k ∈ sr_ids t0 → b13 k = 0) → post (f1, f2, f3, f4, f5, a1, a2, a3, a4, a5, a6, a7, a8, a9, a10, a11, a12, b13, b14, a15)) :
    ∀ (fu : Nat) (ts : List sr_T) (i : Nat) (b13 b14 : Nat → Int32), 48 < fu + i → i + (sr_fids ts).length ≤ 48 → sr_stk b14 ts → sr_stt (f1, f2, f3, f4, f5, a1, a2, a3, a4, a5, a6, a7, a8, a9, a10, a11, a12, a13, a14, a15) ts → (∀ k, k ∉ sr_ids t0 → b13 k = a13 k) → (∀ k, k ∈ sr_ids t0 → k ∉ sr_fids ts → b13 k = 0) → (∀ k, k ∈ sr_fids ts → k ∈ sr_ids t0) →
    wX_release_17 post f1 f2 f3 f4 f5 fu (nI ts.length) (nI i) a1 a2 a3 a4 a5 a6 a7 a8 a9 a10 a11 a12 b13 b14 a15 := by
  intro fu
  induction fu with
  | zero => intro ts i b13 b14 h1 h2; omega
  | succ n ih =>
    intro ts i b13 b14 hf hi hs ht u1 u2 u3
    have hlen := sr_fids_len ts ht
    rw [wX_release_17]
    cases ts with
    | nil =>
      have fin : post (f1, f2, f3, f4, f5, a1, a2, a3, a4, a5, a6, a7, a8, a9, a10, a11, a12, b13, b14, a15) := H b13 b14 u1 (fun k hk => u2 k hk List.not_mem_nil)
      exact br_c (fun _ => fin) (fun _ => br_t (by show nI 0 ≤ 0; rw [nI_0]; exact sr_ler 0) fin)
    | cons t ts =>
      obtain ⟨hs1, hs2⟩ := hs
      obtain ⟨⟨p, ok⟩, hpos⟩ := ht t List.mem_cons_self
      have ht2 : sr_stt (f1, f2, f3, f4, f5, a1, a2, a3, a4, a5, a6, a7, a8, a9, a10, a11, a12, a13, a14, a15) ts := fun x hx => ht x (List.mem_cons_of_mem _ hx)
      cases t with
      | leaf _ => exact absurd hpos (Nat.lt_irrefl 0)
      | branch x l r =>
        obtain ⟨hx, e1, e2, _, _, ol, or⟩ := id ok
        have e1 : a1 x = nI (sr_rt l) := e1
        have e2 : a2 x = nI (sr_rt r) := e2
        have hs1 : b14 ts.length = nI x := hs1
        have x49 : x < 49 := by omega
        have vx := sr_vi x49
        have hi' : i + ((sr_ids l ++ x :: sr_ids r) ++ sr_fids ts).length ≤ 48 := hi
        rw [List.length_append, List.length_append, List.length_cons] at hi'
        have hlen2 := sr_fids_len ts ht2
        have t49 : ts.length < 49 := by omega
        have vt := sr_vi t49
        have xin : x ∈ sr_ids t0 := u3 x (List.mem_append_left _ (sr_xin x l r))
        have lin : ∀ k, k ∈ sr_ids l → k ∈ sr_ids t0 := fun k hk => u3 k (List.mem_append_left _ (sr_lin hk))
        have rin : ∀ k, k ∈ sr_ids r → k ∈ sr_ids t0 := fun k hk => u3 k (List.mem_append_left _ (sr_rin hk))
        have tin : ∀ k, k ∈ sr_fids ts → k ∈ sr_ids t0 := fun k hk => u3 k (List.mem_append_right _ hk)
        have w1 : ∀ k, k ∉ sr_ids t0 → upd b13 x 0 k = a13 k := fun k hk => by
          have kx : k ≠ x := fun e => hk (e ▸ xin)
          rw [pk_un kx]
          exact u1 k hk
        have w2 : ∀ k, k ∈ sr_ids t0 → k ∉ sr_ids l → k ∉ sr_ids r → k ∉ sr_fids ts → upd b13 x 0 k = 0 := by
          intro k hk h1 h2 h3
          by_cases e : k = x
          · rw [e, pk_us]
          · rw [pk_un e]
            refine u2 k hk (fun z => ?_)
            rcases List.mem_append.mp z with z | z
            · rcases List.mem_append.mp z with z | z
              · exact h1 z
              · rcases List.mem_cons.mp z with z | z
                · exact e z
                · exact h2 z
            · exact h3 z
        -- the right subtree's turn
        have rgt : ∀ (ts' : List sr_T) (b14' : Nat → Int32), sr_stk b14' ts' → sr_stt (f1, f2, f3, f4, f5, a1, a2, a3, a4, a5, a6, a7, a8, a9, a10, a11, a12, a13, a14, a15) ts' → ts'.length < 49 → i + 1 + ((sr_fids ts').length + (sr_ids r).length) ≤ 48 → (∀ k, k ∈ sr_ids t0 → k ∉ sr_ids r → k ∉ sr_fids ts' → upd b13 x 0 k = 0) → (∀ k, k ∈ sr_fids ts' → k ∈ sr_ids t0) →
            wX_release_72 post (wX_release_17 post f1 f2 f3 f4 f5 n) (nI ts'.length) (nI i) (nI x) f1 f2 f3 f4 f5 a1 a2 a3 a4 a5 a6 a7 a8 a9 a10 a11 a12 (upd b13 x 0) b14' a15 := by
          intro ts' b14' q1 q2 q3 q4 q5 q6
          unfold wX_release_72
          rw [sr_cl0 x49, e2]
          refine ⟨vx, ?_⟩
          cases r with
          | leaf _ => exact br_t nI_0 (nm_r (nI_1 i) (ih ts' (i + 1) _ _ (by omega) (by omega) q1 q2 w1 (fun k hk z => q5 k hk List.not_mem_nil z) q6))
          | branch y tl tr =>
            have hy := or.1
            refine br_f (nI_ne0 (by show 0 < y; omega) (by show y < 2 ^ 31; omega)) ⟨vx, sr_vi q3, nm_e (nm_r (nI_1 _) (nm_r (nI_1 i) ?_))⟩
            rw [sr_cl0 q3]
            refine ih (.branch y tl tr :: ts') (i + 1) _ _ (by omega) ?_ ⟨pk_us, sr_stk_c ts' q1 (fun j hj => pk_un (by omega))⟩ ?_ w1 ?_ ?_
            · show i + 1 + (sr_ids (.branch y tl tr) ++ sr_fids ts').length ≤ 48
              rw [List.length_append]
              omega
            · intro z hz
              rcases List.mem_cons.mp hz with e | e
              · rw [e]
                refine ⟨⟨x, or⟩, ?_⟩
                show 0 < (sr_ids tl ++ y :: sr_ids tr).length
                rw [List.length_append, List.length_cons]
                omega
              · exact q2 z e
            · intro k hk z
              exact q5 k hk (fun w => z (List.mem_append_left _ w)) (fun w => z (List.mem_append_right _ w))
            · intro k hk
              rcases List.mem_append.mp hk with z | z
              · exact rin k z
              · exact q6 k z
        refine br_f (nI_ge (b := 48) (by omega) (by decide)) ?_
        refine br_f (nI_nle (by show 0 < ts.length + 1; omega) (by show ts.length + 1 < 2 ^ 31; omega)) (nm_r (pk_m1 ts.length) ⟨vt, ?_⟩)
        rw [sr_cl0 t49]
        refine nm_r hs1 ⟨vx, ?_⟩
        rw [sr_cl0 x49]
        refine nm_e ⟨vx, ?_⟩
        rw [e1]
        cases l with
        | leaf _ =>
          refine br_t nI_0 (rgt ts b14 hs2 ht2 t49 (by omega) (fun k hk h2 h3 => w2 k hk List.not_mem_nil h2 h3) tin)
        | branch y tl tr =>
          have hy := ol.1
          refine br_f (nI_ne0 (by show 0 < y; omega) (by show y < 2 ^ 31; omega)) ⟨vx, vt, nm_e (nm_r (nI_1 _) ?_)⟩
          have hly : 0 < (sr_ids (.branch y tl tr)).length := by
            show 0 < (sr_ids tl ++ y :: sr_ids tr).length
            rw [List.length_append, List.length_cons]
            omega
          refine rgt (.branch y tl tr :: ts) _ ⟨pk_us, sr_stk_c ts hs2 (fun j hj => pk_un (by omega))⟩ ?_ (by show ts.length + 1 < 49; omega) ?_ ?_ ?_
          · intro z hz
            rcases List.mem_cons.mp hz with e | e
            · rw [e]
              exact ⟨⟨x, ol⟩, hly⟩
            · exact ht2 z e
          · show i + 1 + ((sr_ids (.branch y tl tr) ++ sr_fids ts).length + (sr_ids r).length) ≤ 48
            rw [List.length_append]
            omega
          · intro k hk h2 h3
            exact w2 k hk (fun w => h3 (List.mem_append_left _ w)) h2 (fun w => h3 (List.mem_append_right _ w))
          · intro k hk
            rcases List.mem_append.mp hk with z | z
            · exact lin k z
            · exact tin k z
theorem sr_release {post : St1 → Prop} {t : sr_T} {f1 f2 f3 f4 f5 : Int32} {a1 a2 a3 a4 a5 a6 a7 a8 a9 a10 a11 a12 a13 a14 a15 : Nat → Int32} (ok : sr_ok (f1, f2, f3, f4, f5, a1, a2, a3, a4, a5, a6, a7, a8, a9, a10, a11, a12, a13, a14, a15) 0 t) (n : (sr_ids t).Nodup) (H : ∀ b13 b14 : Nat → Int32, (∀ k, k ∉ sr_ids t → b13 k = a13 k) → (∀ k, k ∈ sr_ids t → b13 k = 0) → post (f1, f2, f3, f4, f5, a1, a2, a3, a4, a5, a6, a7, a8, a9, a10, a11, a12, b13, b14, a15)) :
    wpX_release post (f1, f2, f3, f4, f5, a1, a2, a3, a4, a5, a6, a7, a8, a9, a10, a11, a12, a13, a14, a15) (nI (sr_rt t)) := by
  have h48 := sr_ph48 n (sr_rng t 0 ok)
  unfold wpX_release
  dsimp only
  cases t with
  | leaf _ => exact br_t nI_0 ⟨49, sr_rel (t0 := .leaf _) (a14 := a14) H 49 [] 0 a13 a14 (by omega) (by show 0 + 0 ≤ 48; omega) trivial (fun t ht => absurd ht List.not_mem_nil) (fun _ _ => rfl) (fun k hk => absurd hk List.not_mem_nil) (fun k hk => absurd hk List.not_mem_nil)⟩
  | branch x l r =>
    have hx := ok.1
    have e : sr_fids [.branch x l r] = sr_ids (.branch x l r) := List.append_nil _
    refine br_f (nI_ne0 (by show 0 < x; omega) (by show x < 2 ^ 31; omega)) (nm_e ⟨49, sr_rel (t0 := .branch x l r) (a14 := a14) H 49 [.branch x l r] 0 a13 _ (by omega) (by rw [e]; omega) ⟨pk_us, trivial⟩ ?_ (fun _ _ => rfl) (fun k hk z => absurd hk (by rw [← e]; exact z)) (fun k hk => by rw [← e]; exact hk)⟩)
    intro z hz
    rcases List.mem_cons.mp hz with e | e
    · rw [e]
      refine ⟨⟨0, ok⟩, ?_⟩
      show 0 < (sr_ids l ++ x :: sr_ids r).length
      rw [List.length_append, List.length_cons]
      omega
    · exact absurd e List.not_mem_nil
end
section
/-! the object as a whole: the row's tree t, the clip's tree q (K), and the row parted (J) -/
abbrev sr_bef (u : St1) : Int32 := u.2.2.1
abbrev sr_mid (u : St1) : Int32 := u.2.2.2.1
abbrev sr_beh (u : St1) : Int32 := u.2.2.2.2.1
abbrev sr_cy (u : St1) : Nat → Int32 := u.2.2.2.2.2.2.2.2.2.2.2.2.2.2.2.2.2.2.2
def sr_use (us : Nat → Int32) (S : List Nat) : Prop := ∀ k, 1 ≤ k → k ≤ 48 → (us k = 0 ↔ k ∉ S)
def sr_K (u : St1) (t q : sr_T) : Prop := sr_row u = nI (sr_rt t) ∧ sr_b0 u ∧ sr_ok u 0 t ∧ sr_ok u 0 q ∧ (sr_ids t ++ sr_ids q).Nodup ∧ sr_use (sr_us u) (sr_ids t ++ sr_ids q)
def sr_J (u : St1) (t1 t2 t3 q : sr_T) : Prop := sr_bef u = nI (sr_rt t1) ∧ sr_mid u = nI (sr_rt t2) ∧ sr_beh u = nI (sr_rt t3) ∧ sr_b0 u ∧ sr_ok u 0 t1 ∧ sr_ok u 0 t2 ∧ sr_ok u 0 t3 ∧ sr_ok u 0 q ∧ (sr_ids t1 ++ sr_ids t2 ++ sr_ids t3 ++ sr_ids q).Nodup ∧ sr_use (sr_us u) (sr_ids t1 ++ sr_ids t2 ++ sr_ids t3 ++ sr_ids q)
def sr_I (u : St1) (R C : List Int32) : Prop := ∃ t q, sr_K u t q ∧ sr_clip u = nI (sr_rt q) ∧ sr_sq u t = R ∧ sr_sq u q = C
theorem sr_use_p {us : Nat → Int32} {S S' : List Nat} (h : sr_use us S) (p : S'.Perm S) : sr_use us S' := fun k h1 h2 => by
  rw [h k h1 h2, p.mem_iff]
theorem sr_beg {post : St1 → Prop} {u : St1} {t q : sr_T} {A M B : List Int32} (h : sr_K u t q) (hs : sr_sq u t = A ++ M ++ B)
    (H : ∀ (u' : St1) (t1 t2 t3 : sr_T), sr_J u' t1 t2 t3 q → sr_clip u' = sr_clip u → sr_sq u' t1 = A → sr_sq u' t2 = M → sr_sq u' t3 = B → sr_sq u' q = sr_sq u q → post u') :
    wpX_open post u (nI A.length) (nI (A.length + M.length)) := by
  obtain ⟨f1, f2, f3, f4, f5, a1, a2, a3, a4, a5, a6, a7, a8, a9, a10, a11, a12, a13, a14, a15⟩ := u
  obtain ⟨hr, hb, ot, oq, n, us⟩ := h
  obtain ⟨nt, nq, nd⟩ := List.nodup_append.mp n
  refine sr_opn hr hb ot nt hs (fun a1' a2' a3' a4' a5' a6' a7' a8' a9' a10' a11' a12' t1 t2 t3 hb1 o1 o2 o3 s1 s2 s3 pp ou => ?_)
  obtain ⟨oq1, sq1⟩ := sr_keep oq ou (fun k hk z => nd k z k hk rfl)
  exact H _ t1 t2 t3 ⟨rfl, rfl, rfl, hb1, o1, o2, o3, oq1, List.Perm.nodup (pp.append_right (sr_ids q)).symm n, sr_use_p us (pp.append_right (sr_ids q))⟩ rfl s1 s2 s3 sq1
theorem sr_fin {post : St1 → Prop} {u : St1} {t1 t2 t3 q : sr_T} (h : sr_J u t1 t2 t3 q)
    (H : ∀ (u' : St1) (t : sr_T), sr_K u' t q → sr_clip u' = sr_clip u → sr_sq u' t = sr_sq u t1 ++ sr_sq u t2 ++ sr_sq u t3 → sr_sq u' q = sr_sq u q → post u') :
    wpX_close post u := by
  obtain ⟨f1, f2, f3, f4, f5, a1, a2, a3, a4, a5, a6, a7, a8, a9, a10, a11, a12, a13, a14, a15⟩ := u
  obtain ⟨h3, h4, h5, hb, o1, o2, o3, oq, n, us⟩ := h
  obtain ⟨nt, nq, nd⟩ := List.nodup_append.mp n
  refine sr_cls h3 h4 h5 hb o1 o2 o3 nt (fun a1' a2' a3' a4' a5' a6' a7' a8' a9' a10' a11' a12' t hb1 ot st pp ou => ?_)
  obtain ⟨oq1, sq1⟩ := sr_keep oq ou (fun k hk z => nd k z k hk rfl)
  exact H _ t ⟨rfl, hb1, ot, oq1, List.Perm.nodup (pp.append_right (sr_ids q)).symm n, sr_use_p us (pp.append_right (sr_ids q))⟩ rfl st sq1
theorem sr_j4 {a b c d : List Nat} (n : (a ++ b ++ c ++ d).Nodup) : b.Nodup ∧ (∀ k, k ∈ a → k ∉ b) ∧ (∀ k, k ∈ c → k ∉ b) ∧ (∀ k, k ∈ d → k ∉ b) := by
  simp only [List.nodup_append, List.mem_append] at n
  grind
theorem sr_j5 {a b b' c d : List Nat} (p : b'.Perm b) : (a ++ b' ++ c ++ d).Perm (a ++ b ++ c ++ d) := ((p.append_left a).append_right c).append_right d
theorem sr_turnJ {post : St1 → Prop} {u : St1} {t1 t2 t3 q : sr_T} (h : sr_J u t1 t2 t3 q)
    (H : ∀ (u' : St1) (t2' : sr_T), sr_J u' t1 t2' t3 q → sr_clip u' = sr_clip u → sr_sq u' t1 = sr_sq u t1 → sr_sq u' t2' = (sr_sq u t2).reverse → sr_sq u' t3 = sr_sq u t3 → sr_sq u' q = sr_sq u q → post u') :
    wpX_turnAll post u (sr_mid u) := by
  obtain ⟨f1, f2, f3, f4, f5, a1, a2, a3, a4, a5, a6, a7, a8, a9, a10, a11, a12, a13, a14, a15⟩ := u
  obtain ⟨h3, h4, h5, hb, o1, o2, o3, oq, n, us⟩ := h
  obtain ⟨n2, d1, d3, dq⟩ := sr_j4 n
  have h4 : f4 = nI (sr_rt t2) := h4
  show wpX_turnAll post (f1, f2, f3, f4, f5, a1, a2, a3, a4, a5, a6, a7, a8, a9, a10, a11, a12, a13, a14, a15) f4
  rw [h4]
  refine sr_turnAll (t := t2) (sr_ok_s t2 0 o2 (fun k _ => ⟨⟨rfl, rfl, rfl, rfl⟩, ⟨rfl, rfl, rfl, rfl⟩, ⟨rfl, rfl⟩, rfl⟩)) n2 (fun a1' a2' a7' a10' o2' s2' ou => ?_)
  have ou : sr_out (f1, f2, f3, f4, f5, a1, a2, a3, a4, a5, a6, a7, a8, a9, a10, a11, a12, a13, a14, a15) (f1, f2, f3, nI (sr_rt t2), f5, a1', a2', a3, a4, a5, a6, a7', a8, a9, a10', a11, a12, a13, a14, a15) (sr_ids t2) := ou
  obtain ⟨o1', s1⟩ := sr_keep o1 ou d1
  obtain ⟨o3', s3⟩ := sr_keep o3 ou d3
  obtain ⟨oq', sq⟩ := sr_keep oq ou dq
  have pm := sr_j5 (a := sr_ids t1) (c := sr_ids t3) (d := sr_ids q) (sr_mir_ids t2)
  exact H _ (sr_mir t2) ⟨h3, by rw [sr_mir_rt], h5, sr_b0_o ou (sr_no0 o2) hb, o1', o2', o3', oq', List.Perm.nodup pm.symm n, sr_use_p us pm⟩ rfl s1 s2' s3 sq
theorem sr_negJ {post : St1 → Prop} {u : St1} {t1 t2 t3 q : sr_T} (h : sr_J u t1 t2 t3 q)
    (H : ∀ (u' : St1), sr_J u' t1 t2 t3 q → sr_clip u' = sr_clip u → sr_sq u' t1 = sr_sq u t1 → sr_sq u' t2 = (sr_sq u t2).map (fun y => -y) → sr_sq u' t3 = sr_sq u t3 → sr_sq u' q = sr_sq u q → post u') :
    wpX_negateAll post u (sr_mid u) := by
  obtain ⟨f1, f2, f3, f4, f5, a1, a2, a3, a4, a5, a6, a7, a8, a9, a10, a11, a12, a13, a14, a15⟩ := u
  obtain ⟨h3, h4, h5, hb, o1, o2, o3, oq, n, us⟩ := h
  obtain ⟨n2, d1, d3, dq⟩ := sr_j4 n
  have h4 : f4 = nI (sr_rt t2) := h4
  show wpX_negateAll post (f1, f2, f3, f4, f5, a1, a2, a3, a4, a5, a6, a7, a8, a9, a10, a11, a12, a13, a14, a15) f4
  rw [h4]
  refine sr_negateAll (t := t2) (sr_ok_s t2 0 o2 (fun k _ => ⟨⟨rfl, rfl, rfl, rfl⟩, ⟨rfl, rfl, rfl, rfl⟩, ⟨rfl, rfl⟩, rfl⟩)) n2 (fun a4' a6' a7' a8' a9' a11' a12' o2' s2' ou => ?_)
  have ou : sr_out (f1, f2, f3, f4, f5, a1, a2, a3, a4, a5, a6, a7, a8, a9, a10, a11, a12, a13, a14, a15) (f1, f2, f3, nI (sr_rt t2), f5, a1, a2, a3, a4', a5, a6', a7', a8', a9', a10, a11', a12', a13, a14, a15) (sr_ids t2) := ou
  obtain ⟨o1', s1⟩ := sr_keep o1 ou d1
  obtain ⟨o3', s3⟩ := sr_keep o3 ou d3
  obtain ⟨oq', sq⟩ := sr_keep oq ou dq
  exact H _ ⟨h3, rfl, h5, sr_b0_o ou (sr_no0 o2) hb, o1', o2', o3', oq', n, us⟩ rfl s1 s2' s3 sq
theorem sr_addJ {post : St1 → Prop} {u : St1} {t1 t2 t3 q : sr_T} {d : Int32} (h : sr_J u t1 t2 t3 q) (bd : sr_bd ((sr_sq u t2).map (fun y => y + d)))
    (H : ∀ (u' : St1), sr_J u' t1 t2 t3 q → sr_clip u' = sr_clip u → sr_sq u' t1 = sr_sq u t1 → sr_sq u' t2 = (sr_sq u t2).map (fun y => y + d) → sr_sq u' t3 = sr_sq u t3 → sr_sq u' q = sr_sq u q → post u') :
    wpX_addAll post u (sr_mid u) d := by
  obtain ⟨f1, f2, f3, f4, f5, a1, a2, a3, a4, a5, a6, a7, a8, a9, a10, a11, a12, a13, a14, a15⟩ := u
  obtain ⟨h3, h4, h5, hb, o1, o2, o3, oq, n, us⟩ := h
  obtain ⟨n2, d1, d3, dq⟩ := sr_j4 n
  have h4 : f4 = nI (sr_rt t2) := h4
  show wpX_addAll post (f1, f2, f3, f4, f5, a1, a2, a3, a4, a5, a6, a7, a8, a9, a10, a11, a12, a13, a14, a15) f4 d
  rw [h4]
  refine sr_addAll (t := t2) (sr_ok_s t2 0 o2 (fun k _ => ⟨⟨rfl, rfl, rfl, rfl⟩, ⟨rfl, rfl, rfl, rfl⟩, ⟨rfl, rfl⟩, rfl⟩)) n2 bd (fun a4' a6' a7' a8' a9' a12' o2' s2' ou => ?_)
  have ou : sr_out (f1, f2, f3, f4, f5, a1, a2, a3, a4, a5, a6, a7, a8, a9, a10, a11, a12, a13, a14, a15) (f1, f2, f3, nI (sr_rt t2), f5, a1, a2, a3, a4', a5, a6', a7', a8', a9', a10, a11, a12', a13, a14, a15) (sr_ids t2) := ou
  obtain ⟨o1', s1⟩ := sr_keep o1 ou d1
  obtain ⟨o3', s3⟩ := sr_keep o3 ou d3
  obtain ⟨oq', sq⟩ := sr_keep oq ou dq
  exact H _ ⟨h3, rfl, h5, sr_b0_o ou (sr_no0 o2) hb, o1', o2', o3', oq', n, us⟩ rfl s1 s2' s3 sq
theorem sr_K_48 {u : St1} {t q : sr_T} (h : sr_K u t q) : (sr_sq u t).length + (sr_sq u q).length ≤ 48 := by
  obtain ⟨_, _, ot, oq, n, _⟩ := h
  rw [sr_len, sr_len, ← List.length_append]
  exact sr_ph48 n (fun k hk => (List.mem_append.mp hk).elim (sr_rng t 0 ot k) (sr_rng q 0 oq k))
theorem sr_K_sz {u : St1} {t q : sr_T} (h : sr_K u t q) : sr_sz u (sr_rt t) = nI (sr_sq u t).length ∧ sr_sz u (sr_rt q) = nI (sr_sq u q).length ∧ sr_rt t < 49 ∧ sr_rt q < 49 := by
  obtain ⟨_, hb, ot, oq, _, _⟩ := h
  exact ⟨(sr_ra_ok ot hb).1, (sr_ra_ok oq hb).1, sr_rt_lt ot, sr_rt_lt oq⟩
theorem sr_K_bd {u : St1} {t q : sr_T} (h : sr_K u t q) : sr_bd (sr_sq u t) ∧ sr_bd (sr_sq u q) := by
  obtain ⟨_, hb, ot, oq, _, _⟩ := h
  exact ⟨(sr_ra_ok ot hb).2.2.2, (sr_ra_ok oq hb).2.2.2⟩
theorem sr_szK {post : Int32 → Prop} {u : St1} {t q : sr_T} (h : sr_K u t q) (H : post (nI (sr_sq u t).length)) : wpX_size post u := by
  have e := sr_K_sz h
  obtain ⟨f1, f2, f3, f4, f5, a1, a2, a3, a4, a5, a6, a7, a8, a9, a10, a11, a12, a13, a14, a15⟩ := u
  have hr : f1 = nI (sr_rt t) := h.1
  unfold wpX_size
  dsimp only
  rw [hr, sr_cl0 e.2.2.1]
  refine ⟨sr_vi e.2.2.1, ?_⟩
  rw [show a5 (sr_rt t) = _ from e.1]
  exact H
theorem sr_badK {post : Int32 → Prop} {u : St1} {t q : sr_T} {i j : Nat} (h : sr_K u t q) (hij : i ≤ j) (hj : j ≤ (sr_sq u t).length) (H : post 0) : wpX_bad post u (nI i) (nI j) := by
  have e := sr_K_sz h
  have l48 := sr_K_48 h
  obtain ⟨f1, f2, f3, f4, f5, a1, a2, a3, a4, a5, a6, a7, a8, a9, a10, a11, a12, a13, a14, a15⟩ := u
  have hr : f1 = nI (sr_rt t) := h.1
  unfold wpX_bad
  dsimp only
  rw [hr, sr_cl0 e.2.2.1, show a5 (sr_rt t) = _ from e.1]
  exact br_f (nI_pos (by omega)) (br_f (nI_nlt hij (by omega)) ⟨sr_vi e.2.2.1, br_t (nI_le hj (by omega)) H⟩)
theorem sr_getK {post : Int32 → St1 → Prop} {u : St1} {t q : sr_T} {A B : List Int32} {v : Int32} (h : sr_K u t q) (hs : sr_sq u t = A ++ v :: B)
    (H : ∀ (u' : St1) (t' : sr_T), sr_K u' t' q → sr_clip u' = sr_clip u → sr_cy u' = sr_cy u → sr_sq u' t' = A ++ v :: B → sr_sq u' q = sr_sq u q → post v u') :
    wpX_get post u (nI A.length) := by
  have e := sr_K_sz h
  have l48 := sr_K_48 h
  obtain ⟨f1, f2, f3, f4, f5, a1, a2, a3, a4, a5, a6, a7, a8, a9, a10, a11, a12, a13, a14, a15⟩ := u
  obtain ⟨hr, hb, ot, oq, n, us⟩ := h
  obtain ⟨nt, nq, nd⟩ := List.nodup_append.mp n
  have hr : f1 = nI (sr_rt t) := hr
  unfold wpX_get
  dsimp only
  rw [hr, sr_cl0 e.2.2.1, show a5 (sr_rt t) = _ from e.1]
  have hlt : A.length < (sr_seq a4 a10 a11 a12 t).length := by
    rw [show sr_seq a4 a10 a11 a12 t = A ++ v :: B from hs, List.length_append, List.length_cons]
    omega
  have l48 : (sr_seq a4 a10 a11 a12 t).length + (sr_seq a4 a10 a11 a12 q).length ≤ 48 := l48
  refine br_f (nI_pos (by omega)) ⟨sr_vi e.2.2.1, br_t (nI_lt hlt (by omega)) ?_⟩
  have sm0 : ∀ k, sr_sm (f1, f2, f3, f4, f5, a1, a2, a3, a4, a5, a6, a7, a8, a9, a10, a11, a12, a13, a14, a15) (nI (sr_rt t), f2, f3, f4, f5, a1, a2, a3, a4, a5, a6, a7, a8, a9, a10, a11, a12, a13, a14, a15) k := fun k => ⟨⟨rfl, rfl, rfl, rfl⟩, ⟨rfl, rfl, rfl, rfl⟩, ⟨rfl, rfl⟩, rfl⟩
  refine sr_bring (t := t) hb (sr_ok_s t 0 ot (fun k _ => sm0 k)) nt hs (fun a1' a2' a3' a4' a5' a6' a7' a8' a9' a10' a11' a12' x a' b' k1 z1 z2 z3 s1 s2 s3 pp ou => ?_)
  dsimp only
  have hx := k1.1
  have x49 : x < 49 := by omega
  rw [sr_cl0 x49, s2]
  refine ⟨sr_vi x49, ?_⟩
  have ou : sr_out (f1, f2, f3, f4, f5, a1, a2, a3, a4, a5, a6, a7, a8, a9, a10, a11, a12, a13, a14, a15) (nI (sr_rt t), f2, f3, f4, f5, a1', a2', a3', a4', a5', a6', a7', a8', a9', a10', a11', a12', a13, a14, a15) (sr_ids t) := ou
  obtain ⟨oq1, sq1⟩ := sr_keep oq ou (fun k hk z => nd k z k hk rfl)
  refine H _ (.branch x a' b') ⟨rfl, sr_b0_o ou (sr_no0 ot) hb, sr_ok_s _ 0 k1 (fun k _ => ⟨⟨rfl, rfl, rfl, rfl⟩, ⟨rfl, rfl, rfl, rfl⟩, ⟨rfl, rfl⟩, rfl⟩), sr_ok_s _ 0 oq1 (fun k _ => ⟨⟨rfl, rfl, rfl, rfl⟩, ⟨rfl, rfl, rfl, rfl⟩, ⟨rfl, rfl⟩, rfl⟩), List.Perm.nodup (pp.append_right (sr_ids q)).symm n, sr_use_p us (pp.append_right (sr_ids q))⟩ rfl rfl ?_ sq1
  show sr_seq a4' a10' a11' a12' (.branch x a' b') = _
  rw [sr_seq_z z1 z2 z3, s1, s2, s3]
theorem sr_get0 {post : Int32 → St1 → Prop} {u : St1} {t q : sr_T} {i : Nat} (h : sr_K u t q) (hi : (sr_sq u t).length ≤ i) (h2 : i < 2 ^ 31) (H : post 0 u) : wpX_get post u (nI i) := by
  have e := sr_K_sz h
  obtain ⟨f1, f2, f3, f4, f5, a1, a2, a3, a4, a5, a6, a7, a8, a9, a10, a11, a12, a13, a14, a15⟩ := u
  have hr : f1 = nI (sr_rt t) := h.1
  unfold wpX_get
  dsimp only
  rw [hr, sr_cl0 e.2.2.1, show a5 (sr_rt t) = _ from e.1, ← hr]
  exact br_f (nI_pos h2) ⟨by rw [hr]; exact sr_vi e.2.2.1, br_f (nI_nlt hi h2) H⟩
/-- reverse, negate: what they answer and leave -/
theorem sr_reverse {post : Int32 → St1 → Prop} {u : St1} {A M B C : List Int32} (h : sr_I u (A ++ M ++ B) C) (H : ∀ u', sr_I u' (A ++ M.reverse ++ B) C → post (nI M.length) u') : wpX_reverse post u (nI A.length) (nI (A.length + M.length)) := by
  obtain ⟨t, q, k, hc, st, sq⟩ := h
  have hle : A.length + M.length ≤ (sr_sq u t).length := by rw [st, List.length_append, List.length_append]; omega
  have l48 := sr_K_48 k
  obtain ⟨f1, f2, f3, f4, f5, a1, a2, a3, a4, a5, a6, a7, a8, a9, a10, a11, a12, a13, a14, a15⟩ := u
  unfold wpX_reverse
  dsimp only
  refine sr_badK k (by omega) hle (br_t rfl (sr_beg k st (fun u1 t1 t2 t3 j c1 s1 s2 s3 s4 => ?_)))
  obtain ⟨f1', f2', f3', f4', f5', a1', a2', a3', a4', a5', a6', a7', a8', a9', a10', a11', a12', a13', a14', a15'⟩ := u1
  dsimp only
  refine sr_turnJ j (fun u2 t2' j2 c2 e1 e2 e3 e4 => ?_)
  obtain ⟨f1q, f2q, f3q, f4q, f5q, a1q, a2q, a3q, a4q, a5q, a6q, a7q, a8q, a9q, a10q, a11q, a12q, a13q, a14q, a15q⟩ := u2
  dsimp only
  refine sr_fin j2 (fun u3 t' k3 c3 g1 g2 => ?_)
  obtain ⟨f1w, f2w, f3w, f4w, f5w, a1w, a2w, a3w, a4w, a5w, a6w, a7w, a8w, a9w, a10w, a11w, a12w, a13w, a14w, a15w⟩ := u3
  dsimp only
  rw [pk_sub (by omega), show A.length + M.length - A.length = M.length by omega]
  refine H _ ⟨t', q, k3, c3.trans (c2.trans (c1.trans hc)), g1.trans ?_, g2.trans (e4.trans (s4.trans sq))⟩
  rw [e1, e2, e3, s1, s2, s3]
theorem sr_negate {post : Int32 → St1 → Prop} {u : St1} {A M B C : List Int32} (h : sr_I u (A ++ M ++ B) C) (H : ∀ u', sr_I u' (A ++ M.map (fun y => -y) ++ B) C → post (nI M.length) u') : wpX_negate post u (nI A.length) (nI (A.length + M.length)) := by
  obtain ⟨t, q, k, hc, st, sq⟩ := h
  have hle : A.length + M.length ≤ (sr_sq u t).length := by rw [st, List.length_append, List.length_append]; omega
  have l48 := sr_K_48 k
  obtain ⟨f1, f2, f3, f4, f5, a1, a2, a3, a4, a5, a6, a7, a8, a9, a10, a11, a12, a13, a14, a15⟩ := u
  unfold wpX_negate
  dsimp only
  refine sr_badK k (by omega) hle (br_t rfl (sr_beg k st (fun u1 t1 t2 t3 j c1 s1 s2 s3 s4 => ?_)))
  obtain ⟨f1', f2', f3', f4', f5', a1', a2', a3', a4', a5', a6', a7', a8', a9', a10', a11', a12', a13', a14', a15'⟩ := u1
  dsimp only
  refine sr_negJ j (fun u2 j2 c2 e1 e2 e3 e4 => ?_)
  obtain ⟨f1q, f2q, f3q, f4q, f5q, a1q, a2q, a3q, a4q, a5q, a6q, a7q, a8q, a9q, a10q, a11q, a12q, a13q, a14q, a15q⟩ := u2
  dsimp only
  refine sr_fin j2 (fun u3 t' k3 c3 g1 g2 => ?_)
  obtain ⟨f1w, f2w, f3w, f4w, f5w, a1w, a2w, a3w, a4w, a5w, a6w, a7w, a8w, a9w, a10w, a11w, a12w, a13w, a14w, a15w⟩ := u3
  dsimp only
  rw [pk_sub (by omega), show A.length + M.length - A.length = M.length by omega]
  refine H _ ⟨t', q, k3, c3.trans (c2.trans (c1.trans hc)), g1.trans ?_, g2.trans (e4.trans (s4.trans sq))⟩
  rw [e1, e2, e3, s1, s2, s3]
theorem sr_sumS {post : Int32 → St1 → Prop} {u : St1} {A M B C : List Int32} (h : sr_I u (A ++ M ++ B) C) (H : ∀ u', sr_I u' (A ++ M ++ B) C → post (sr_sum M) u') : wpX_sum post u (nI A.length) (nI (A.length + M.length)) := by
  obtain ⟨t, q, k, hc, st, sq⟩ := h
  have hle : A.length + M.length ≤ (sr_sq u t).length := by rw [st, List.length_append, List.length_append]; omega
  have l48 := sr_K_48 k
  obtain ⟨f1, f2, f3, f4, f5, a1, a2, a3, a4, a5, a6, a7, a8, a9, a10, a11, a12, a13, a14, a15⟩ := u
  unfold wpX_sum
  dsimp only
  refine sr_badK k (by omega) hle (br_t rfl (sr_beg k st (fun u1 t1 t2 t3 j c1 s1 s2 s3 s4 => ?_)))
  obtain ⟨f1', f2', f3', f4', f5', a1', a2', a3', a4', a5', a6', a7', a8', a9', a10', a11', a12', a13', a14', a15'⟩ := u1
  dsimp only
  obtain ⟨h3, h4, h5, hb, o1, o2, o3, oq, n, us⟩ := id j
  have h4 : f4' = nI (sr_rt t2) := h4
  have lt := sr_rt_lt o2
  have et : a6' (sr_rt t2) = sr_sum M := by rw [← s2]; exact (sr_ra_ok o2 hb).2.1
  have ev : vp_in f4' 49 := by rw [h4]; exact sr_vi lt
  have em : a6' f4'.toNatClampNeg = sr_sum M := by rw [h4, sr_cl0 lt]; exact et
  rw [em]
  refine ⟨ev, nm_e (sr_fin j (fun u3 t' k3 c3 g1 g2 => ?_))⟩
  obtain ⟨f1w, f2w, f3w, f4w, f5w, a1w, a2w, a3w, a4w, a5w, a6w, a7w, a8w, a9w, a10w, a11w, a12w, a13w, a14w, a15w⟩ := u3
  dsimp only
  refine H _ ⟨t', q, k3, c3.trans (c1.trans hc), g1.trans ?_, g2.trans (s4.trans sq)⟩
  rw [s1, s2, s3]
end
section
/-! raise, rotate, cut, paste -/
theorem sr_add_bv {a d : Int32} (ha : sr_bv a) (hd : sr_bv d) : (a + d).toInt = a.toInt + d.toInt := by
  unfold sr_bv at *
  have h := sr_ia a d
  have h1 := Int32.toInt_lt (a + d)
  have h2 := Int32.le_toInt (a + d)
  omega
def sr_fit (d : Int32) (M : List Int32) : Prop := ∀ y, y ∈ M → -1000000 ≤ y.toInt + d.toInt ∧ y.toInt + d.toInt ≤ 1000000
theorem sr_fit_bd {d : Int32} {M : List Int32} (hd : sr_bv d) (hm : sr_bd M) (h : sr_fit d M) : sr_bd (M.map (fun y => y + d)) := by
  intro y hy
  obtain ⟨z, hz, rfl⟩ := List.mem_map.mp hy
  unfold sr_bv
  rw [sr_add_bv (hm z hz) hd]
  exact h z hz
theorem sr_i1 : (1000000 : Int32).toInt = 1000000 := by decide
theorem sr_i2 : (-1000000 : Int32).toInt = -1000000 := by decide
theorem sr_bdN {post : Int32 → Prop} {u : St1} {v : Int32} (hv : sr_bv v) (H : post 0) : wpX_badNumber post u v := by
  obtain ⟨f1, f2, f3, f4, f5, a1, a2, a3, a4, a5, a6, a7, a8, a9, a10, a11, a12, a13, a14, a15⟩ := u
  unfold wpX_badNumber
  dsimp only
  unfold sr_bv at hv
  refine br_f ?_ (br_t ?_ H)
  · rw [Int32.lt_iff_toInt_lt, sr_i2]; omega
  · rw [Int32.le_iff_toInt_le, sr_i1]; omega
theorem sr_r85 {post : Int32 → St1 → Prop} {t1 t2 t3 q : sr_T} {x1 x2 z : Int32} {f1 f2 f3 f4 f5 : Int32} {a1 a2 a3 a4 a5 a6 a7 a8 a9 a10 a11 a12 a13 a14 a15 : Nat → Int32} (j : sr_J (f1, f2, f3, f4, f5, a1, a2, a3, a4, a5, a6, a7, a8, a9, a10, a11, a12, a13, a14, a15) t1 t2 t3 q)
    (H : ∀ (u' : St1) (t : sr_T), sr_K u' t q → sr_clip u' = f2 → sr_sq u' t = sr_sq (f1, f2, f3, f4, f5, a1, a2, a3, a4, a5, a6, a7, a8, a9, a10, a11, a12, a13, a14, a15) t1 ++ sr_sq (f1, f2, f3, f4, f5, a1, a2, a3, a4, a5, a6, a7, a8, a9, a10, a11, a12, a13, a14, a15) t2 ++ sr_sq (f1, f2, f3, f4, f5, a1, a2, a3, a4, a5, a6, a7, a8, a9, a10, a11, a12, a13, a14, a15) t3 → sr_sq u' q = sr_sq (f1, f2, f3, f4, f5, a1, a2, a3, a4, a5, a6, a7, a8, a9, a10, a11, a12, a13, a14, a15) q → post (if z = 0 then -1 else x2 - x1) u') :
    wX_raise_85 post x1 x2 z f1 f2 f3 f4 f5 a1 a2 a3 a4 a5 a6 a7 a8 a9 a10 a11 a12 a13 a14 a15 := by
  unfold wX_raise_85
  refine sr_fin j (fun u' t k c s1 s2 => ?_)
  obtain ⟨f1', f2', f3', f4', f5', a1', a2', a3', a4', a5', a6', a7', a8', a9', a10', a11', a12', a13', a14', a15'⟩ := u'
  have h := H _ t k c s1 s2
  dsimp only
  by_cases hz : z = 0
  · rw [if_pos hz] at h
    exact br_t hz h
  · rw [if_neg hz] at h
    exact br_f hz h
theorem sr_raise {post : Int32 → St1 → Prop} {u : St1} {A M B C : List Int32} {d : Int32} (h : sr_I u (A ++ M ++ B) C) (hd : sr_bv d)
    (Ht : sr_fit d M → ∀ u', sr_I u' (A ++ M.map (fun y => y + d) ++ B) C → post (nI M.length) u') (Hf : ¬ sr_fit d M → ∀ u', sr_I u' (A ++ M ++ B) C → post (-1) u') : wpX_raise post u (nI A.length) (nI (A.length + M.length)) d := by
  obtain ⟨t, q, k, hc, st, sq⟩ := h
  have hle : A.length + M.length ≤ (sr_sq u t).length := by rw [st, List.length_append, List.length_append]; omega
  have l48 := sr_K_48 k
  obtain ⟨f1, f2, f3, f4, f5, a1, a2, a3, a4, a5, a6, a7, a8, a9, a10, a11, a12, a13, a14, a15⟩ := u
  unfold wpX_raise
  dsimp only
  refine sr_badK k (by omega) hle (br_t rfl (sr_bdN hd (br_t rfl (sr_beg k st (fun u1 t1 t2 t3 j c1 s1 s2 s3 s4 => ?_)))))
  obtain ⟨f1', f2', f3', f4', f5', a1', a2', a3', a4', a5', a6', a7', a8', a9', a10', a11', a12', a13', a14', a15'⟩ := u1
  dsimp only
  obtain ⟨h3, h4, h5, hb, o1, o2, o3, oq, n, us⟩ := id j
  have h4 : f4' = nI (sr_rt t2) := h4
  have c1 : f2' = f2 := c1
  have hc : f2 = nI (sr_rt q) := hc
  have lt := sr_rt_lt o2
  obtain ⟨_, _, hl, bdM⟩ := sr_ra_ok o2 hb
  have s2 : sr_seq a4' a10' a11' a12' t2 = M := s2
  have hl : sr_hl (a8' (sr_rt t2)) (a9' (sr_rt t2)) M := by rw [← s2]; exact hl
  have bdM : sr_bd M := by rw [← s2]; exact bdM
  have ev : vp_in f4' 49 := by rw [h4]; exact sr_vi lt
  have ec : f4'.toNatClampNeg = sr_rt t2 := by rw [h4]; exact sr_cl0 lt
  have sub : nI (A.length + M.length) - nI A.length = nI M.length := by rw [pk_sub (by omega), show A.length + M.length - A.length = M.length by omega]
  have bad : ¬ sr_fit d M → wX_raise_68 post (nI A.length) (nI (A.length + M.length)) d f1' f2' f3' f4' f5' a1' a2' a3' a4' a5' a6' a7' a8' a9' a10' a11' a12' a13' a14' a15' := by
    intro nf
    unfold wX_raise_68 wX_raise_69
    refine br_t rfl (sr_r85 j (fun u3 t' k3 c3 g1 g2 => ?_))
    rw [if_pos rfl]
    refine Hf nf _ ⟨t', q, k3, c3.trans (c1.trans hc), g1.trans ?_, g2.trans (s4.trans sq)⟩
    rw [s1, s3]
    show A ++ sr_seq a4' a10' a11' a12' t2 ++ B = _
    rw [s2]
  have good : sr_fit d M → wX_raise_64 post (nI A.length) (nI (A.length + M.length)) d f1' f2' f3' f4' f5' a1' a2' a3' a4' a5' a6' a7' a8' a9' a10' a11' a12' a13' a14' a15' := by
    intro yf
    have bd' : sr_bd ((sr_seq a4' a10' a11' a12' t2).map (fun y => y + d)) := by rw [s2]; exact sr_fit_bd hd bdM yf
    unfold wX_raise_64 wX_raise_69
    refine br_f (by decide) (sr_addJ j bd' (fun u2 j2 c2 e1 e2 e3 e4 => ?_))
    obtain ⟨f1q, f2q, f3q, f4q, f5q, a1q, a2q, a3q, a4q, a5q, a6q, a7q, a8q, a9q, a10q, a11q, a12q, a13q, a14q, a15q⟩ := u2
    dsimp only
    refine sr_r85 j2 (fun u3 t' k3 c3 g1 g2 => ?_)
    rw [if_neg (by decide), sub]
    refine Ht yf _ ⟨t', q, k3, c3.trans (Eq.trans c2 (c1.trans hc)), g1.trans ?_, g2.trans (e4.trans (s4.trans sq))⟩
    rw [e1, e2, e3, s1, s3]
    show A ++ (sr_seq a4' a10' a11' a12' t2).map (fun y => y + d) ++ B = _
    rw [s2]
  by_cases h0 : f4' = 0
  · refine br_t h0 (good ?_)
    have hz0 : sr_rt t2 = 0 := by
      rw [h4] at h0
      by_cases e : sr_rt t2 = 0
      · exact e
      · exact absurd h0 (nI_ne0 (by omega) (by omega))
    rcases hl with ⟨e, _⟩ | _
    · rw [e]; exact fun y hy => absurd hy List.not_mem_nil
    · cases t2 with
      | leaf _ => rw [← s2]; exact fun y hy => absurd hy List.not_mem_nil
      | branch x l r =>
        have hx := o2.1
        have e : x = 0 := hz0
        omega
  · refine br_f h0 ⟨ev, ?_⟩
    rw [ec]
    rcases hl with ⟨e, _⟩ | ⟨mx, mn⟩
    · exfalso
      cases t2 with
      | leaf _ => exact h0 (h4.trans nI_0)
      | branch x l r =>
        rw [e] at s2
        have := congrArg List.length s2
        rw [sr_len] at this
        have : (sr_ids l ++ x :: sr_ids r).length = 0 := this
        rw [List.length_append, List.length_cons] at this
        omega
    · have b1 := bdM _ mx.1
      have b2 := bdM _ mn.1
      have q1 : (1000000 < a8' (sr_rt t2) + d) ↔ 1000000 < (a8' (sr_rt t2)).toInt + d.toInt := by
        rw [Int32.lt_iff_toInt_lt, sr_add_bv b1 hd, sr_i1]
      have q2 : (a9' (sr_rt t2) + d < -1000000) ↔ (a9' (sr_rt t2)).toInt + d.toInt < -1000000 := by
        rw [Int32.lt_iff_toInt_lt, sr_add_bv b2 hd, sr_i2]
      refine br_c (fun g => bad (fun z => ?_)) (fun g => ⟨ev, br_c (fun g2 => bad (fun z => ?_)) (fun g2 => good (fun y hy => ?_))⟩)
      · have := z _ mx.1
        have := q1.mp g
        omega
      · have := z _ mn.1
        have := q2.mp g2
        omega
      · have g' : ¬ 1000000 < (a8' (sr_rt t2)).toInt + d.toInt := fun z => g (q1.mpr z)
        have g2' : ¬ (a9' (sr_rt t2)).toInt + d.toInt < -1000000 := fun z => g2 (q2.mpr z)
        have := mx.2 y hy
        have := mn.2 y hy
        omega
theorem sr_rotate {post : Int32 → St1 → Prop} {u : St1} {A M1 M2 B C : List Int32} (h : sr_I u (A ++ (M1 ++ M2) ++ B) C) (H : ∀ u', sr_I u' (A ++ (M2 ++ M1) ++ B) C → post 0 u') : wpX_rotate post u (nI A.length) (nI (A.length + (M1 ++ M2).length)) (nI M1.length) := by
  obtain ⟨t, q, k, hc, st, sq⟩ := h
  have hle : A.length + (M1 ++ M2).length ≤ (sr_sq u t).length := by
    rw [st]
    simp only [List.length_append]
    omega
  have l48 := sr_K_48 k
  have l1 : M1.length ≤ (M1 ++ M2).length := by rw [List.length_append]; omega
  obtain ⟨f1, f2, f3, f4, f5, a1, a2, a3, a4, a5, a6, a7, a8, a9, a10, a11, a12, a13, a14, a15⟩ := u
  unfold wpX_rotate
  dsimp only
  refine sr_badK k (by omega) hle (br_t rfl (br_f (nI_pos (by omega)) (br_t ?_ ?_)))
  · rw [pk_sub (by omega), show A.length + (M1 ++ M2).length - A.length = (M1 ++ M2).length by omega]
    exact nI_le l1 (by omega)
  refine sr_beg k st (fun u1 t1 t2 t3 j c1 s1 s2 s3 s4 => ?_)
  obtain ⟨f1', f2', f3', f4', f5', a1', a2', a3', a4', a5', a6', a7', a8', a9', a10', a11', a12', a13', a14', a15'⟩ := u1
  dsimp only
  obtain ⟨h3, h4, h5, hb, o1, o2, o3, oq, n, us⟩ := id j
  obtain ⟨n2, d1, d3, dq⟩ := sr_j4 n
  have h4 : f4' = nI (sr_rt t2) := h4
  have h3 : f3' = nI (sr_rt t1) := h3
  have h5 : f5' = nI (sr_rt t3) := h5
  have c1 : f2' = f2 := c1
  have hc : f2 = nI (sr_rt q) := hc
  subst h4
  refine sr_part hb o2 n2 s2 (fun a1q a2q a3q a4q a5q a6q a7q a8q a9q a10q a11q a12q ta tb oa ob sa sb pab ou => ?_)
  dsimp only
  obtain ⟨o1', e1⟩ := sr_keep o1 ou d1
  obtain ⟨o3', e3⟩ := sr_keep o3 ou d3
  obtain ⟨oq', eq⟩ := sr_keep oq ou dq
  have hb' := sr_b0_o ou (sr_no0 o2) hb
  have nab : (sr_ids ta ++ sr_ids tb).Nodup := List.Perm.nodup pab.symm n2
  have nba : (sr_ids tb ++ sr_ids ta).Nodup := List.Perm.nodup List.perm_append_comm nab
  have pba : (sr_ids tb ++ sr_ids ta).Perm (sr_ids t2) := List.perm_append_comm.trans pab
  refine sr_join hb' ob oa nba (fun a1w a2w a3w a4w a5w a6w a7w a8w a9w a10w a11w a12w tt ot stt ptt ou2 => ?_)
  dsimp only
  have ptt2 := ptt.trans pba
  have z : ∀ k, k ∈ sr_ids tb ++ sr_ids ta → k ∈ sr_ids t2 := fun k hk => pba.mem_iff.mp hk
  obtain ⟨o1'', e1'⟩ := sr_keep o1' ou2 (fun k hk w => d1 k hk (z k w))
  obtain ⟨o3'', e3'⟩ := sr_keep o3' ou2 (fun k hk w => d3 k hk (z k w))
  obtain ⟨oq'', eq'⟩ := sr_keep oq' ou2 (fun k hk w => dq k hk (z k w))
  have hb'' := sr_b0_o ou2 (fun w => sr_no0 o2 (z 0 w)) hb'
  have pm := sr_j5 (a := sr_ids t1) (c := sr_ids t3) (d := sr_ids q) ptt2
  have j2 : sr_J (f1', f2', f3', nI (sr_rt tt), f5', a1w, a2w, a3w, a4w, a5w, a6w, a7w, a8w, a9w, a10w, a11w, a12w, a13', a14', a15') t1 tt t3 q := by
    refine ⟨h3, rfl, h5, hb'', ?_, ?_, ?_, ?_, List.Perm.nodup pm.symm n, sr_use_p us pm⟩
    · exact sr_ok_s _ _ o1'' (fun k _ => ⟨⟨rfl, rfl, rfl, rfl⟩, ⟨rfl, rfl, rfl, rfl⟩, ⟨rfl, rfl⟩, rfl⟩)
    · exact sr_ok_s _ _ ot (fun k _ => ⟨⟨rfl, rfl, rfl, rfl⟩, ⟨rfl, rfl, rfl, rfl⟩, ⟨rfl, rfl⟩, rfl⟩)
    · exact sr_ok_s _ _ o3'' (fun k _ => ⟨⟨rfl, rfl, rfl, rfl⟩, ⟨rfl, rfl, rfl, rfl⟩, ⟨rfl, rfl⟩, rfl⟩)
    · exact sr_ok_s _ _ oq'' (fun k _ => ⟨⟨rfl, rfl, rfl, rfl⟩, ⟨rfl, rfl, rfl, rfl⟩, ⟨rfl, rfl⟩, rfl⟩)
  refine sr_fin j2 (fun u3 t' k3 c3 g1 g2 => ?_)
  obtain ⟨f1z, f2z, f3z, f4z, f5z, a1z, a2z, a3z, a4z, a5z, a6z, a7z, a8z, a9z, a10z, a11z, a12z, a13z, a14z, a15z⟩ := u3
  dsimp only
  refine H _ ⟨t', q, k3, c3.trans (c1.trans hc), g1.trans ?_, g2.trans (Eq.trans eq' (Eq.trans eq (s4.trans sq)))⟩
  show sr_seq a4w a10w a11w a12w t1 ++ sr_seq a4w a10w a11w a12w tt ++ sr_seq a4w a10w a11w a12w t3 = _
  rw [stt, sa, sb]
  rw [show sr_seq a4w a10w a11w a12w t1 = A from Eq.trans e1' (Eq.trans e1 s1), show sr_seq a4w a10w a11w a12w t3 = B from Eq.trans e3' (Eq.trans e3 s3)]
theorem sr_cut {post : Int32 → St1 → Prop} {u : St1} {A M B C : List Int32} (h : sr_I u (A ++ M ++ B) C) (H : ∀ u', sr_I u' (A ++ B) M → post (nI M.length) u') : wpX_cut post u (nI A.length) (nI (A.length + M.length)) := by
  obtain ⟨t, q, k, hc, st, sq⟩ := h
  have hle : A.length + M.length ≤ (sr_sq u t).length := by rw [st, List.length_append, List.length_append]; omega
  have l48 := sr_K_48 k
  obtain ⟨f1, f2, f3, f4, f5, a1, a2, a3, a4, a5, a6, a7, a8, a9, a10, a11, a12, a13, a14, a15⟩ := u
  have hc : f2 = nI (sr_rt q) := hc
  subst hc
  unfold wpX_cut
  dsimp only
  refine sr_badK k (by omega) hle (br_t rfl ?_)
  obtain ⟨hr, hb, ot, oq, n, us⟩ := id k
  obtain ⟨nt, nq, nd⟩ := List.nodup_append.mp n
  refine sr_release oq nq (fun b13 b14 r1 r2 => ?_)
  dsimp only
  have k1 : sr_K (f1, nI (sr_rt q), f3, f4, f5, a1, a2, a3, a4, a5, a6, a7, a8, a9, a10, a11, a12, b13, b14, a15) t sr_lef := by
    refine ⟨hr, hb, sr_ok_s _ _ ot (fun k _ => ⟨⟨rfl, rfl, rfl, rfl⟩, ⟨rfl, rfl, rfl, rfl⟩, ⟨rfl, rfl⟩, rfl⟩), trivial, ?_, ?_⟩
    · rw [show sr_ids sr_lef = [] from rfl, List.append_nil]; exact nt
    · rw [show sr_ids sr_lef = [] from rfl, List.append_nil]
      intro k h1 h2
      show b13 k = 0 ↔ _
      by_cases hk : k ∈ sr_ids q
      · exact ⟨fun _ z => nd k z k hk rfl, fun _ => r2 k hk⟩
      · rw [r1 k hk]
        have := us k h1 h2
        rw [List.mem_append] at this
        exact ⟨fun z w => this.mp z (Or.inl w), fun z => this.mpr (fun w => w.elim z hk)⟩
  refine sr_beg k1 st (fun u1 t1 t2 t3 j c1 s1 s2 s3 s4 => ?_)
  obtain ⟨f1', f2', f3', f4', f5', a1', a2', a3', a4', a5', a6', a7', a8', a9', a10', a11', a12', a13', a14', a15'⟩ := u1
  dsimp only
  obtain ⟨h3, h4, h5, hb1, o1, o2, o3, oq1, n1, us1⟩ := id j
  have h4 : f4' = nI (sr_rt t2) := h4
  have pm : (sr_ids t1 ++ sr_ids sr_lef ++ sr_ids t3 ++ sr_ids t2).Perm (sr_ids t1 ++ sr_ids t2 ++ sr_ids t3 ++ sr_ids sr_lef) := by
    rw [List.perm_iff_count]
    intro k
    simp only [List.count_append]
    omega
  have j2 : sr_J (f1', f4', f3', 0, f5', a1', a2', a3', a4', a5', a6', a7', a8', a9', a10', a11', a12', a13', a14', a15') t1 sr_lef t3 t2 := by
    refine ⟨h3, nI_0.symm, h5, hb1, ?_, trivial, ?_, ?_, List.Perm.nodup pm.symm n1, sr_use_p us1 pm⟩
    · exact sr_ok_s _ _ o1 (fun k _ => ⟨⟨rfl, rfl, rfl, rfl⟩, ⟨rfl, rfl, rfl, rfl⟩, ⟨rfl, rfl⟩, rfl⟩)
    · exact sr_ok_s _ _ o3 (fun k _ => ⟨⟨rfl, rfl, rfl, rfl⟩, ⟨rfl, rfl, rfl, rfl⟩, ⟨rfl, rfl⟩, rfl⟩)
    · exact sr_ok_s _ _ o2 (fun k _ => ⟨⟨rfl, rfl, rfl, rfl⟩, ⟨rfl, rfl, rfl, rfl⟩, ⟨rfl, rfl⟩, rfl⟩)
  refine sr_fin j2 (fun u3 t' k3 c3 g1 g2 => ?_)
  have e := sr_K_sz k3
  obtain ⟨f1z, f2z, f3z, f4z, f5z, a1z, a2z, a3z, a4z, a5z, a6z, a7z, a8z, a9z, a10z, a11z, a12z, a13z, a14z, a15z⟩ := u3
  dsimp only
  have c3 : f2z = nI (sr_rt t2) := Eq.trans c3 h4
  have g2' : sr_seq a4z a10z a11z a12z t2 = M := Eq.trans g2 s2
  have e2 : a5z (sr_rt t2) = nI M.length := by rw [← g2']; exact e.2.1
  subst c3
  rw [sr_cl0 e.2.2.2, e2]
  refine ⟨sr_vi e.2.2.2, H _ ⟨t', t2, k3, rfl, g1.trans ?_, g2'⟩⟩
  show sr_seq a4' a10' a11' a12' t1 ++ [] ++ sr_seq a4' a10' a11' a12' t3 = _
  rw [List.append_nil]
  rw [show sr_seq a4' a10' a11' a12' t1 = A from s1, show sr_seq a4' a10' a11' a12' t3 = B from s3]
theorem sr_paste {post : Int32 → St1 → Prop} {u : St1} {A B C : List Int32} (h : sr_I u (A ++ B) C) (H : ∀ u', sr_I u' (A ++ C ++ B) [] → post (nI (A ++ C ++ B).length) u') : wpX_paste post u (nI A.length) := by
  obtain ⟨t, q, k, hc, st, sq⟩ := h
  have e := sr_K_sz k
  have st' : sr_sq u t = A ++ [] ++ B := by rw [List.append_nil]; exact st
  have l48 := sr_K_48 k
  rw [st, List.length_append] at l48
  obtain ⟨f1, f2, f3, f4, f5, a1, a2, a3, a4, a5, a6, a7, a8, a9, a10, a11, a12, a13, a14, a15⟩ := u
  have hr : f1 = nI (sr_rt t) := k.1
  have hc : f2 = nI (sr_rt q) := hc
  subst hr
  have e5 : a5 (sr_rt t) = nI (A.length + B.length) := by rw [← List.length_append, ← st]; exact e.1
  unfold wpX_paste
  dsimp only
  rw [sr_cl0 e.2.2.1, e5]
  refine br_f (nI_pos (by omega)) ⟨sr_vi e.2.2.1, br_t (nI_le (by omega) (by omega)) ?_⟩
  refine sr_beg (M := []) k st' (fun u1 t1 t2 t3 j c1 s1 s2 s3 s4 => ?_)
  obtain ⟨f1', f2', f3', f4', f5', a1', a2', a3', a4', a5', a6', a7', a8', a9', a10', a11', a12', a13', a14', a15'⟩ := u1
  dsimp only
  obtain ⟨h3, h4, h5, hb1, o1, o2, o3, oq1, n1, us1⟩ := id j
  have c1 : f2' = f2 := c1
  have i2 : sr_ids t2 = [] := List.length_eq_zero_iff.mp (by rw [← sr_len a4' a10' a11' a12', show sr_seq a4' a10' a11' a12' t2 = [] from s2]; rfl)
  have pm : (sr_ids t1 ++ sr_ids q ++ sr_ids t3 ++ sr_ids sr_lef).Perm (sr_ids t1 ++ sr_ids t2 ++ sr_ids t3 ++ sr_ids q) := by
    rw [i2, List.perm_iff_count]
    intro k
    simp only [List.count_append, show sr_ids sr_lef = [] from rfl]
    omega
  have j2 : sr_J (f1', 0, f3', f2', f5', a1', a2', a3', a4', a5', a6', a7', a8', a9', a10', a11', a12', a13', a14', a15') t1 q t3 sr_lef := by
    refine ⟨h3, c1.trans hc, h5, hb1, ?_, ?_, ?_, trivial, List.Perm.nodup pm.symm n1, sr_use_p us1 pm⟩
    · exact sr_ok_s _ _ o1 (fun k _ => ⟨⟨rfl, rfl, rfl, rfl⟩, ⟨rfl, rfl, rfl, rfl⟩, ⟨rfl, rfl⟩, rfl⟩)
    · exact sr_ok_s _ _ oq1 (fun k _ => ⟨⟨rfl, rfl, rfl, rfl⟩, ⟨rfl, rfl, rfl, rfl⟩, ⟨rfl, rfl⟩, rfl⟩)
    · exact sr_ok_s _ _ o3 (fun k _ => ⟨⟨rfl, rfl, rfl, rfl⟩, ⟨rfl, rfl, rfl, rfl⟩, ⟨rfl, rfl⟩, rfl⟩)
  refine sr_fin j2 (fun u3 t' k3 c3 g1 g2 => ?_)
  have e := sr_K_sz k3
  obtain ⟨f1z, f2z, f3z, f4z, f5z, a1z, a2z, a3z, a4z, a5z, a6z, a7z, a8z, a9z, a10z, a11z, a12z, a13z, a14z, a15z⟩ := u3
  dsimp only
  have hr : f1z = nI (sr_rt t') := k3.1
  have g1' : sr_seq a4z a10z a11z a12z t' = A ++ C ++ B := by
    refine Eq.trans g1 ?_
    show sr_seq a4' a10' a11' a12' t1 ++ sr_seq a4' a10' a11' a12' q ++ sr_seq a4' a10' a11' a12' t3 = _
    rw [show sr_seq a4' a10' a11' a12' t1 = A from s1, show sr_seq a4' a10' a11' a12' t3 = B from s3, show sr_seq a4' a10' a11' a12' q = C from Eq.trans s4 sq]
  have e2 : a5z (sr_rt t') = nI (A ++ C ++ B).length := by rw [← g1']; exact e.1
  subst hr
  rw [sr_cl0 e.2.2.1, e2]
  exact ⟨sr_vi e.2.2.1, H _ ⟨t', sr_lef, k3, Eq.trans c3 nI_0.symm, g1', rfl⟩⟩
end
section
/-! put, insert, insertRun, set -/
theorem sr_free {us : Nat → Int32} {S : List Nat} (h : sr_use us S) (hl : S.length < 48) : ∃ j, 1 ≤ j ∧ j ≤ 48 ∧ us j = 0 := by
  by_cases e : ∃ j, 1 ≤ j ∧ j ≤ 48 ∧ us j = 0
  · exact e
  · exfalso
    have : ∀ k, 1 ≤ k → k ≤ 48 → k ∈ S := fun k h1 h2 => by
      by_cases m : k ∈ S
      · exact m
      · exact absurd ⟨k, h1, h2, (h k h1 h2).mpr m⟩ e
    have := sr_ph48' this
    omega
theorem sr_use_add {us : Nat → Int32} {S S' : List Nat} {x : Nat} (h : sr_use us S) (hm : ∀ k, k ∈ S' ↔ (k = x ∨ k ∈ S)) : sr_use (upd us x 1) S' := by
  intro k h1 h2
  rw [hm k]
  by_cases e : k = x
  · rw [e, pk_us]
    exact ⟨fun z => absurd z (by decide), fun z => absurd (Or.inl rfl) z⟩
  · rw [pk_un e, h k h1 h2]
    exact ⟨fun z w => w.elim e z, fun z w => z (Or.inr w)⟩
theorem sr_put {post : St1 → Prop} {u : St1} {t q : sr_T} {A B : List Int32} {v : Int32} (k : sr_K u t q) (st : sr_sq u t = A ++ B) (hv : sr_bv v) (hl : (A ++ B).length + (sr_sq u q).length < 48)
    (H : ∀ (u' : St1) (t' : sr_T), sr_K u' t' q → sr_clip u' = sr_clip u → sr_sq u' t' = A ++ [v] ++ B → sr_sq u' q = sr_sq u q → post u') : wpX_put post u (nI A.length) v := by
  have st' : sr_sq u t = A ++ [] ++ B := by rw [List.append_nil]; exact st
  have lq : (sr_sq u q).length = (sr_ids q).length := sr_len _ _ _ _ q
  rw [lq, List.length_append] at hl
  obtain ⟨f1, f2, f3, f4, f5, a1, a2, a3, a4, a5, a6, a7, a8, a9, a10, a11, a12, a13, a14, a15⟩ := u
  unfold wpX_put
  dsimp only
  refine sr_beg (M := []) k st' (fun u1 t1 t2 t3 j c1 s1 s2 s3 s4 => ?_)
  obtain ⟨f1', f2', f3', f4', f5', a1', a2', a3', a4', a5', a6', a7', a8', a9', a10', a11', a12', a13', a14', a15'⟩ := u1
  dsimp only
  obtain ⟨h3, h4, h5, hb, o1, o2, o3, oq, n, us⟩ := id j
  have i2 : sr_ids t2 = [] := List.length_eq_zero_iff.mp (by rw [← sr_len a4' a10' a11' a12', show sr_seq a4' a10' a11' a12' t2 = [] from s2]; rfl)
  have l1 : (sr_ids t1).length = A.length := by rw [← sr_len a4' a10' a11' a12', show sr_seq a4' a10' a11' a12' t1 = A from s1]
  have l3 : (sr_ids t3).length = B.length := by rw [← sr_len a4' a10' a11' a12', show sr_seq a4' a10' a11' a12' t3 = B from s3]
  rw [i2, List.append_nil] at n us
  have hfree := sr_free us (by rw [List.length_append, List.length_append, l1, l3]; omega)
  refine sr_make hb hv hfree (fun x a1q a2q a3q a4q a5q a6q a7q a8q a9q a10q a11q a12q hx ux ox sx ou => ?_)
  dsimp only
  have xn : x ∉ sr_ids t1 ++ sr_ids t3 ++ sr_ids q := (us x hx.1 hx.2).mp ux
  have x1 : x ∉ sr_ids t1 := fun z => xn (List.mem_append_left _ (List.mem_append_left _ z))
  have x3 : x ∉ sr_ids t3 := fun z => xn (List.mem_append_left _ (List.mem_append_right _ z))
  have xq : x ∉ sr_ids q := fun z => xn (List.mem_append_right _ z)
  have in1 : ∀ {S : List Nat}, x ∉ S → ∀ k, k ∈ S → k ∉ [x] := fun h k hk z => h ((List.mem_singleton.mp z) ▸ hk)
  obtain ⟨o1', e1⟩ := sr_keep o1 ou (in1 x1)
  obtain ⟨o3', e3⟩ := sr_keep o3 ou (in1 x3)
  obtain ⟨oq', eq⟩ := sr_keep oq ou (in1 xq)
  have hb' := sr_b0_o ou (fun z => absurd (List.mem_singleton.mp z) (by omega)) hb
  have pm : (sr_ids t1 ++ sr_ids (.branch x sr_lef sr_lef) ++ sr_ids t3 ++ sr_ids q).Perm (x :: (sr_ids t1 ++ sr_ids t3 ++ sr_ids q)) := by
    show (sr_ids t1 ++ [x] ++ sr_ids t3 ++ sr_ids q).Perm _
    rw [List.perm_iff_count]
    intro k
    simp only [List.count_append, List.count_cons, List.count_nil]
    omega
  have j2 : sr_J (f1', f2', f3', nI x, f5', a1q, a2q, a3q, a4q, a5q, a6q, a7q, a8q, a9q, a10q, a11q, a12q, upd a13' x 1, a14', a15') t1 (.branch x sr_lef sr_lef) t3 q := by
    refine ⟨h3, rfl, h5, hb', ?_, ?_, ?_, ?_, List.Perm.nodup pm.symm (List.nodup_cons.mpr ⟨xn, n⟩), sr_use_add us (fun k => ?_)⟩
    · exact sr_ok_s _ _ o1' (fun k _ => ⟨⟨rfl, rfl, rfl, rfl⟩, ⟨rfl, rfl, rfl, rfl⟩, ⟨rfl, rfl⟩, rfl⟩)
    · exact sr_ok_s _ _ ox (fun k _ => ⟨⟨rfl, rfl, rfl, rfl⟩, ⟨rfl, rfl, rfl, rfl⟩, ⟨rfl, rfl⟩, rfl⟩)
    · exact sr_ok_s _ _ o3' (fun k _ => ⟨⟨rfl, rfl, rfl, rfl⟩, ⟨rfl, rfl, rfl, rfl⟩, ⟨rfl, rfl⟩, rfl⟩)
    · exact sr_ok_s _ _ oq' (fun k _ => ⟨⟨rfl, rfl, rfl, rfl⟩, ⟨rfl, rfl, rfl, rfl⟩, ⟨rfl, rfl⟩, rfl⟩)
    · rw [pm.mem_iff, List.mem_cons]
  refine sr_fin j2 (fun u3 t' k3 c3 g1 g2 => ?_)
  obtain ⟨f1z, f2z, f3z, f4z, f5z, a1z, a2z, a3z, a4z, a5z, a6z, a7z, a8z, a9z, a10z, a11z, a12z, a13z, a14z, a15z⟩ := u3
  dsimp only
  refine H _ t' k3 (Eq.trans c3 c1) (g1.trans ?_) (Eq.trans g2 (Eq.trans eq s4))
  show sr_seq a4q a10q a11q a12q t1 ++ sr_seq a4q a10q a11q a12q (.branch x sr_lef sr_lef) ++ sr_seq a4q a10q a11q a12q t3 = _
  rw [sx, show sr_seq a4q a10q a11q a12q t1 = A from Eq.trans e1 s1, show sr_seq a4q a10q a11q a12q t3 = B from Eq.trans e3 s3]
theorem sr_insert {post : Int32 → St1 → Prop} {u : St1} {A B C : List Int32} {v : Int32} (h : sr_I u (A ++ B) C) (hv : sr_bv v)
    (Hf : (A ++ B).length + C.length = 48 → post (-2) u) (Ht : (A ++ B).length + C.length < 48 → ∀ r u', sr_I u' (A ++ [v] ++ B) C → post r u') : wpX_insert post u (nI A.length) v := by
  obtain ⟨t, q, k, hc, st, sq⟩ := h
  have e := sr_K_sz k
  have l48 := sr_K_48 k
  rw [st, sq] at l48
  have la : A.length ≤ (A ++ B).length := by rw [List.length_append]; omega
  obtain ⟨f1, f2, f3, f4, f5, a1, a2, a3, a4, a5, a6, a7, a8, a9, a10, a11, a12, a13, a14, a15⟩ := u
  have hr : f1 = nI (sr_rt t) := k.1
  have hc : f2 = nI (sr_rt q) := hc
  subst hr
  subst hc
  have e1 : a5 (sr_rt t) = nI (A ++ B).length := by rw [← st]; exact e.1
  have e2 : a5 (sr_rt q) = nI C.length := by rw [← sq]; exact e.2.1
  unfold wpX_insert
  dsimp only
  rw [sr_cl0 e.2.2.1, sr_cl0 e.2.2.2, e1, e2, nI_add]
  have vt := sr_vi e.2.2.1
  have vq := sr_vi e.2.2.2
  refine br_f (nI_pos (by omega)) ⟨vt, br_f (nI_nlt la (by omega)) (sr_bdN hv (br_t rfl ⟨vt, vq, pk_eq _ 48 (fun g => Hf g) (fun g => ?_)⟩))⟩
  refine sr_put k st hv (by rw [sq]; omega) (fun u' t' k' c' s1 s2 => ?_)
  have e' := sr_K_sz k'
  obtain ⟨f1', f2', f3', f4', f5', a1', a2', a3', a4', a5', a6', a7', a8', a9', a10', a11', a12', a13', a14', a15'⟩ := u'
  dsimp only
  have hr : f1' = nI (sr_rt t') := k'.1
  refine ⟨by rw [hr]; exact sr_vi e'.2.2.1, Ht (by omega) _ _ ⟨t', q, k', c', s1, Eq.trans s2 sq⟩⟩
def sr_run (v d : Int32) : Nat → List Int32
  | 0 => []
  | n + 1 => sr_run v d n ++ [v + nI n * d]
theorem sr_run_len (v d : Int32) (n : Nat) : (sr_run v d n).length = n := by
  induction n with
  | zero => rfl
  | succ n ih =>
    show (sr_run v d n ++ [v + nI n * d]).length = n + 1
    rw [List.length_append, ih]
    rfl
theorem sr_ir99 {post : Int32 → St1 → Prop} {A B C : List Int32} {v d : Int32} {m : Nat} (hm : (A ++ B).length + C.length + m ≤ 48) (hbv : ∀ n, n < m → sr_bv (v + nI n * d)) (H : ∀ r u', sr_I u' (A ++ sr_run v d m ++ B) C → post r u') :
    ∀ (fu n : Nat) (a1 a2 a3 a4 a5 a6 a7 a8 a9 a10 a11 a12 a13 a14 a15 : Nat → Int32) (f1 f2 f3 f4 f5 : Int32), m < fu + n → n ≤ m → sr_I (f1, f2, f3, f4, f5, a1, a2, a3, a4, a5, a6, a7, a8, a9, a10, a11, a12, a13, a14, a15) (A ++ sr_run v d n ++ B) C → wX_insertRun_99 post (nI A.length) (nI m) v d fu (nI n) f1 f2 f3 f4 f5 a1 a2 a3 a4 a5 a6 a7 a8 a9 a10 a11 a12 a13 a14 a15 := by
  intro fu
  induction fu with
  | zero => intro n a1 a2 a3 a4 a5 a6 a7 a8 a9 a10 a11 a12 a13 a14 a15 f1 f2 f3 f4 f5 h1 h2; omega
  | succ w ih =>
    intro n a1 a2 a3 a4 a5 a6 a7 a8 a9 a10 a11 a12 a13 a14 a15 f1 f2 f3 f4 f5 hf hn hI
    obtain ⟨t, q, k, hc, st, sq⟩ := id hI
    have e := sr_K_sz k
    rw [wX_insertRun_99]
    have hr : f1 = nI (sr_rt t) := k.1
    by_cases h : n = m
    · refine br_t (by rw [h]; exact sr_ler _) ⟨by rw [hr]; exact sr_vi e.2.2.1, H _ _ ?_⟩
      rw [← h]; exact hI
    · refine br_f (nI_ge (by omega) (by omega)) ?_
      have la : (A ++ sr_run v d n).length = A.length + n := by rw [List.length_append, sr_run_len]
      rw [nI_add, ← la]
      refine sr_put k st (hbv n (by omega)) ?_ (fun u' t' k' c' s1 s2 => ?_)
      · rw [sq]
        rw [List.length_append] at hm
        rw [List.length_append, la]
        omega
      · obtain ⟨f1', f2', f3', f4', f5', a1', a2', a3', a4', a5', a6', a7', a8', a9', a10', a11', a12', a13', a14', a15'⟩ := u'
        dsimp only
        refine nm_r (nI_1 n) (ih (n + 1) _ _ _ _ _ _ _ _ _ _ _ _ _ _ _ _ _ _ _ _ (by omega) (by omega) ⟨t', q, k', Eq.trans c' hc, s1.trans ?_, Eq.trans s2 sq⟩)
        show A ++ sr_run v d n ++ [v + nI n * d] ++ B = A ++ (sr_run v d n ++ [v + nI n * d]) ++ B
        rw [List.append_assoc A]
theorem sr_insertRun {post : Int32 → St1 → Prop} {u : St1} {A B C : List Int32} {v d : Int32} {m : Nat} (h : sr_I u (A ++ B) C) (hm : m ≤ 7) (hv : sr_bv v) (hd : sr_bv d) (hbv : ∀ n, n < m → sr_bv (v + nI n * d))
    (Hf : 48 < (A ++ B).length + C.length + m → post (-2) u) (Ht : (A ++ B).length + C.length + m ≤ 48 → ∀ r u', sr_I u' (A ++ sr_run v d m ++ B) C → post r u') : wpX_insertRun post u (nI A.length) (nI m) v d := by
  obtain ⟨t, q, k, hc, st, sq⟩ := id h
  have e := sr_K_sz k
  have l48 := sr_K_48 k
  rw [st, sq] at l48
  have la : A.length ≤ (A ++ B).length := by rw [List.length_append]; omega
  obtain ⟨f1, f2, f3, f4, f5, a1, a2, a3, a4, a5, a6, a7, a8, a9, a10, a11, a12, a13, a14, a15⟩ := u
  have hr : f1 = nI (sr_rt t) := k.1
  have hc : f2 = nI (sr_rt q) := hc
  subst hr
  subst hc
  have e1 : a5 (sr_rt t) = nI (A ++ B).length := by rw [← st]; exact e.1
  have e2 : a5 (sr_rt q) = nI C.length := by rw [← sq]; exact e.2.1
  have vt := sr_vi e.2.2.1
  have vq := sr_vi e.2.2.2
  have go : wX_insertRun_67 post (nI A.length) (nI m) v d (nI (sr_rt t)) (nI (sr_rt q)) f3 f4 f5 a1 a2 a3 a4 a5 a6 a7 a8 a9 a10 a11 a12 a13 a14 a15 := by
    unfold wX_insertRun_67
    rw [sr_cl0 e.2.2.1, sr_cl0 e.2.2.2, e1, e2, nI_add, nI_add]
    refine ⟨vt, vq, pk_le _ 48 (fun g => ?_) (fun g => Hf g)⟩
    refine ⟨8, sr_ir99 g hbv (Ht g) 8 0 _ _ _ _ _ _ _ _ _ _ _ _ _ _ _ _ _ _ _ _ (by omega) (by omega) ?_⟩
    show sr_I _ (A ++ [] ++ B) C
    rw [List.append_nil]
    exact h
  unfold wpX_insertRun
  dsimp only
  rw [sr_cl0 e.2.2.1, e1]
  refine br_f (nI_pos (by omega)) ⟨vt, br_f (nI_nlt la (by omega)) (br_f (nI_pos (by omega)) (br_f (nI_nlt (b := m) (a := 48) (by omega) (by decide)) (sr_bdN hv (br_t rfl (sr_bdN hd (br_t rfl ?_))))))⟩
  cases m with
  | zero => exact br_t (by rw [nI_0]; exact sr_ler 0) go
  | succ m =>
    refine br_f (nI_nle (by omega) (by omega)) ?_
    rw [nI_pred]
    exact sr_bdN (hbv m (by omega)) (br_t rfl go)
theorem sr_set {post : Int32 → St1 → Prop} {u : St1} {A B C : List Int32} {v w : Int32} (h : sr_I u (A ++ w :: B) C) (hv : sr_bv v) (H : ∀ u', sr_I u' (A ++ v :: B) C → post 0 u') : wpX_set post u (nI A.length) v := by
  obtain ⟨t, q, k, hc, st, sq⟩ := h
  have e := sr_K_sz k
  have l48 := sr_K_48 k
  rw [st, sq] at l48
  have la : A.length < (A ++ w :: B).length := by rw [List.length_append, List.length_cons]; omega
  obtain ⟨f1, f2, f3, f4, f5, a1, a2, a3, a4, a5, a6, a7, a8, a9, a10, a11, a12, a13, a14, a15⟩ := u
  obtain ⟨hr, hb, ot, oq, n, us⟩ := k
  obtain ⟨nt, nq, nd⟩ := List.nodup_append.mp n
  have hr : f1 = nI (sr_rt t) := hr
  subst hr
  have e1 : a5 (sr_rt t) = nI (A ++ w :: B).length := by rw [← st]; exact e.1
  have vt := sr_vi e.2.2.1
  unfold wpX_set
  dsimp only
  rw [sr_cl0 e.2.2.1, e1]
  refine br_f (nI_pos (by omega)) ⟨vt, br_f (nI_ge la (by omega)) (sr_bdN hv (br_t rfl ?_))⟩
  refine sr_bring (t := t) hb ot nt st (fun a1' a2' a3' a4' a5' a6' a7' a8' a9' a10' a11' a12' x a' b' k1 z1 z2 z3 s1 s2 s3 pp ou => ?_)
  dsimp only
  obtain ⟨hx, g1, g2, g3, _, oa, ob⟩ := id k1
  have x49 : x < 49 := by omega
  have vx := sr_vi x49
  have nx : (sr_ids (.branch x a' b')).Nodup := List.Perm.nodup pp.symm nt
  obtain ⟨xa, xb, na, nb, nab⟩ := sr_ndx nx
  have hb1 := sr_b0_o ou (sr_no0 ot) hb
  obtain ⟨oq1, sq1⟩ := sr_keep oq ou (fun k hk z => nd k z k hk rfl)
  rw [sr_cl0 x49]
  refine ⟨vx, nm_e ?_⟩
  have sm : ∀ k, k ≠ x → sr_sm (nI (sr_rt t), f2, f3, f4, f5, a1', a2', a3', a4', a5', a6', a7', a8', a9', a10', a11', a12', a13, a14, a15) (nI x, f2, f3, f4, f5, a1', a2', a3', upd a4' x v, a5', a6', a7', a8', a9', a10', a11', a12', a13, a14, a15) k := fun k hk => ⟨⟨pk_un hk, rfl, rfl, rfl⟩, ⟨rfl, rfl, rfl, rfl⟩, ⟨rfl, rfl⟩, rfl⟩
  have hv' : sr_bv (upd a4' x v x) := by rw [pk_us]; exact hv
  have oa1 := sr_ok_s a' x oa (fun k hk => sm k (fun z => xa (z ▸ hk)))
  have ob1 := sr_ok_s b' x ob (fun k hk => sm k (fun z => xb (z ▸ hk)))
  have sa : sr_seq (upd a4' x v) a10' a11' a12' a' = sr_seq a4' a10' a11' a12' a' := sr_seq_c (u := (nI (sr_rt t), f2, f3, f4, f5, a1', a2', a3', a4', a5', a6', a7', a8', a9', a10', a11', a12', a13, a14, a15)) (u' := (nI x, f2, f3, f4, f5, a1', a2', a3', upd a4' x v, a5', a6', a7', a8', a9', a10', a11', a12', a13, a14, a15)) a' (fun k hk => (sm k (fun z => xa (z ▸ hk))).1)
  have sb : sr_seq (upd a4' x v) a10' a11' a12' b' = sr_seq a4' a10' a11' a12' b' := sr_seq_c (u := (nI (sr_rt t), f2, f3, f4, f5, a1', a2', a3', a4', a5', a6', a7', a8', a9', a10', a11', a12', a13, a14, a15)) (u' := (nI x, f2, f3, f4, f5, a1', a2', a3', upd a4' x v, a5', a6', a7', a8', a9', a10', a11', a12', a13, a14, a15)) b' (fun k hk => (sm k (fun z => xb (z ▸ hk))).1)
  have xt : x ∈ sr_ids t := pp.mem_iff.mp (sr_xin x a' b')
  have xq : ∀ k, k ∈ sr_ids q → k ≠ x := fun k hk z => nd x xt k hk z.symm
  refine sr_pullT (q := 0) (l := a') (r := b') hb1 hx g1 g2 g3 z1 z2 z3 oa1 ob1 xa xb hv' (fun a5q a6q a7q a8q a9q k2 eB => ?_)
  dsimp only
  have smq : ∀ k, k ∈ sr_ids q → sr_sm (nI (sr_rt t), f2, f3, f4, f5, a1', a2', a3', a4', a5', a6', a7', a8', a9', a10', a11', a12', a13, a14, a15) (nI x, f2, f3, f4, f5, a1', a2', a3', upd a4' x v, a5q, a6q, a7q, a8q, a9q, a10', a11', a12', a13, a14, a15) k := fun k hk => ⟨⟨pk_un (xq k hk), rfl, rfl, rfl⟩, eB k (xq k hk), ⟨rfl, rfl⟩, rfl⟩
  have hb2 : sr_b0 (nI x, f2, f3, f4, f5, a1', a2', a3', upd a4' x v, a5q, a6q, a7q, a8q, a9q, a10', a11', a12', a13, a14, a15) := by
    obtain ⟨w1, w2, w3, w4⟩ := eB 0 (by omega)
    exact ⟨w1.trans hb1.1, w2.trans hb1.2.1, w3.trans hb1.2.2.1, w4.trans hb1.2.2.2⟩
  refine H _ ⟨.branch x a' b', q, ⟨rfl, hb2, k2, sr_ok_s q 0 oq1 smq, List.Perm.nodup (pp.append_right (sr_ids q)).symm n, sr_use_p us (pp.append_right (sr_ids q))⟩, hc, ?_, ?_⟩
  · show sr_seq (upd a4' x v) a10' a11' a12' (.branch x a' b') = _
    rw [sr_seq_z z1 z2 z3, sa, sb, s1, s3, pk_us]
  · exact Eq.trans (sr_seq_c q (fun k hk => (smq k hk).1)) (Eq.trans sq1 sq)
theorem sr_set0 {post : Int32 → St1 → Prop} {u : St1} {R C : List Int32} {v : Int32} (h : sr_I u R C) (H : post (-1) u) : wpX_set post u (nI R.length) v := by
  obtain ⟨t, q, k, hc, st, sq⟩ := h
  have e := sr_K_sz k
  have l48 := sr_K_48 k
  rw [st, sq] at l48
  obtain ⟨f1, f2, f3, f4, f5, a1, a2, a3, a4, a5, a6, a7, a8, a9, a10, a11, a12, a13, a14, a15⟩ := u
  have hr : f1 = nI (sr_rt t) := k.1
  subst hr
  have e1 : a5 (sr_rt t) = nI R.length := by rw [← st]; exact e.1
  unfold wpX_set
  dsimp only
  rw [sr_cl0 e.2.2.1, e1]
  exact br_f (nI_pos (by omega)) ⟨sr_vi e.2.2.1, br_t (sr_ler _) H⟩
end
section
/-! the second print of get is the first -/
theorem sr_e_p191 : @wX_pull_2_191 = @wX_pull_191 := by delta wX_pull_2_191 wX_pull_191; rfl
theorem sr_e_p160 : @wX_pull_2_160 = @wX_pull_160 := by delta wX_pull_2_160 wX_pull_160; rw [sr_e_p191]
theorem sr_e_p131 : @wX_pull_2_131 = @wX_pull_131 := by delta wX_pull_2_131 wX_pull_131; rw [sr_e_p160]
theorem sr_e_pull : @wpX_pull_2 = @wpX_pull := by delta wpX_pull_2 wpX_pull; rw [sr_e_p131]
theorem sr_e_setL : @wpX_setLeft_2 = @wpX_setLeft := by delta wpX_setLeft_2 wpX_setLeft; rfl
theorem sr_e_setR : @wpX_setRight_2 = @wpX_setRight := by delta wpX_setRight_2 wpX_setRight; rfl
theorem sr_e_l108 : @wX_lift_2_108 = @wX_lift_108 := by delta wX_lift_2_108 wX_lift_108; rw [sr_e_pull]
theorem sr_e_l63 : @wX_lift_2_63 = @wX_lift_63 := by delta wX_lift_2_63 wX_lift_63; rw [sr_e_l108]
theorem sr_e_lift : @wpX_lift_2 = @wpX_lift := by delta wpX_lift_2 wpX_lift; rw [sr_e_l63, sr_e_setL, sr_e_setR]
theorem sr_e_s92 : @wX_splay_2_92 = @wX_splay_92 := by delta wX_splay_2_92 wX_splay_92; rw [sr_e_lift]
theorem sr_e_s89 : @wX_splay_2_89 = @wX_splay_89 := by delta wX_splay_2_89 wX_splay_89; rw [sr_e_lift, sr_e_s92]
theorem sr_e_s76 : @wX_splay_2_76 = @wX_splay_76 := by delta wX_splay_2_76 wX_splay_76; rw [sr_e_s89]
theorem sr_e_s68 : @wX_splay_2_68 = @wX_splay_68 := by delta wX_splay_2_68 wX_splay_68; rw [sr_e_s76]
theorem sr_e_s53 : @wX_splay_2_53 = @wX_splay_53 := by delta wX_splay_2_53 wX_splay_53; rw [sr_e_s68]
theorem sr_e_spl (post : St1 → Prop) (x1 : Int32) : ∀ n, wX_splay_2_2 post x1 n = wX_splay_2 post x1 n := by
  intro n
  induction n with
  | zero => rfl
  | succ n ih =>
    rw [wX_splay_2_2, wX_splay_2, ih, sr_e_s92, sr_e_s53]
theorem sr_e_splay : @wpX_splay_2 = @wpX_splay := by
  have e : @wX_splay_2_2 = @wX_splay_2 := by
    funext post x1 n
    exact sr_e_spl post x1 n
  delta wpX_splay_2 wpX_splay
  rw [e]
theorem sr_e_add : @wpX_addAll_2 = @wpX_addAll := by delta wpX_addAll_2 wpX_addAll; rfl
theorem sr_e_neg : @wpX_negateAll_2 = @wpX_negateAll := by delta wpX_negateAll_2 wpX_negateAll; rfl
theorem sr_e_turn : @wpX_turnAll_2 = @wpX_turnAll := by delta wpX_turnAll_2 wpX_turnAll; rfl
theorem sr_e_p66 : @wX_push_2_66 = @wX_push_66 := by delta wX_push_2_66 wX_push_66; rw [sr_e_add]
theorem sr_e_p40 : @wX_push_2_40 = @wX_push_40 := by delta wX_push_2_40 wX_push_40; rw [sr_e_p66, sr_e_neg]
theorem sr_e_push : @wpX_push_2 = @wpX_push := by delta wpX_push_2 wpX_push; rw [sr_e_p40, sr_e_turn]
theorem sr_e_brg (post : Int32 → St1 → Prop) : ∀ n, wX_bring_2_8 post n = wX_bring_8 post n := by
  intro n
  induction n with
  | zero => rfl
  | succ n ih =>
    rw [wX_bring_2_8, wX_bring_8, ih, sr_e_splay, sr_e_push]
theorem sr_e_bring : @wpX_bring_2 = @wpX_bring := by
  have e : @wX_bring_2_8 = @wX_bring_8 := by
    funext post n
    exact sr_e_brg post n
  delta wpX_bring_2 wpX_bring
  rw [e]
theorem sr_e_get : @wpX_get_2 = @wpX_get := by delta wpX_get_2 wpX_get; rw [sr_e_bring]
end
section
/-! copy -/
theorem sr_spn : ∀ (M : List Int32) (n : Nat), n < M.length → M = M.take n ++ M.getD n 0 :: M.drop (n + 1) := by
  intro M
  induction M with
  | nil => intro n h; exact absurd h (Nat.not_lt_zero _)
  | cons y M ih =>
    intro n h
    cases n with
    | zero => rfl
    | succ n =>
      have h' : n < M.length := Nat.lt_of_succ_lt_succ h
      exact congrArg (List.cons y) (ih n h')
theorem sr_tkn (M : List Int32) (n : Nat) (h : n < M.length) : M.take n ++ [M.getD n 0] = M.take (n + 1) := by
  induction M generalizing n with
  | nil => exact absurd h (Nat.not_lt_zero _)
  | cons y M ih =>
    cases n with
    | zero => rfl
    | succ n =>
      have h' : n < M.length := Nat.lt_of_succ_lt_succ h
      exact congrArg (List.cons y) (ih n h')
theorem sr_K_y {t q : sr_T} {b2 : Int32} {b14 b15 : Nat → Int32} {f1 f2 f3 f4 f5 : Int32} {a1 a2 a3 a4 a5 a6 a7 a8 a9 a10 a11 a12 a13 a14 a15 : Nat → Int32} (k : sr_K (f1, f2, f3, f4, f5, a1, a2, a3, a4, a5, a6, a7, a8, a9, a10, a11, a12, a13, a14, a15) t q) : sr_K (f1, b2, f3, f4, f5, a1, a2, a3, a4, a5, a6, a7, a8, a9, a10, a11, a12, a13, b14, b15) t q := by
  obtain ⟨hr, hb, ot, oq, n, us⟩ := k
  exact ⟨hr, hb, sr_ok_s _ _ ot (fun k _ => ⟨⟨rfl, rfl, rfl, rfl⟩, ⟨rfl, rfl, rfl, rfl⟩, ⟨rfl, rfl⟩, rfl⟩), sr_ok_s _ _ oq (fun k _ => ⟨⟨rfl, rfl, rfl, rfl⟩, ⟨rfl, rfl, rfl, rfl⟩, ⟨rfl, rfl⟩, rfl⟩), n, us⟩
theorem sr_c80 {post : Int32 → St1 → Prop} {R M : List Int32} (hl : R.length + M.length ≤ 48) (hbM : sr_bd M) (H : ∀ r u', sr_I u' R M → post r u') :
    ∀ (fu n : Nat) (a1 a2 a3 a4 a5 a6 a7 a8 a9 a10 a11 a12 a13 a14 a15 : Nat → Int32) (f1 f2 f3 f4 f5 : Int32) (t q : sr_T), M.length < fu + n → n ≤ M.length → sr_K (f1, f2, f3, f4, f5, a1, a2, a3, a4, a5, a6, a7, a8, a9, a10, a11, a12, a13, a14, a15) t q → f2 = nI (sr_rt q) → sr_seq a4 a10 a11 a12 t = R → sr_seq a4 a10 a11 a12 q = M.take n → (∀ j, j < M.length → a15 j = M.getD j 0) → wX_copy_80 post (nI M.length) fu (nI n) f1 f2 f3 f4 f5 a1 a2 a3 a4 a5 a6 a7 a8 a9 a10 a11 a12 a13 a14 a15 := by
  intro fu
  induction fu with
  | zero => intro n a1 a2 a3 a4 a5 a6 a7 a8 a9 a10 a11 a12 a13 a14 a15 f1 f2 f3 f4 f5 t q h1 h2; omega
  | succ w ih =>
    intro n a1 a2 a3 a4 a5 a6 a7 a8 a9 a10 a11 a12 a13 a14 a15 f1 f2 f3 f4 f5 t q hf hn k hc st sq hcy
    rw [wX_copy_80]
    by_cases h : n = M.length
    · refine br_t (by rw [h]; exact sr_ler _) (H _ _ ⟨t, q, k, hc, st, sq.trans ?_⟩)
      rw [h, List.take_length]
    · have hn' : n < M.length := by omega
      refine br_f (nI_ge hn' (by omega)) ⟨pk_in n 48 (by omega), ?_⟩
      rw [nI_clamp (show n < 2 ^ 31 by omega), hcy n hn']
      subst hc
      obtain ⟨hr, hb, ot, oq, nn, us⟩ := k
      obtain ⟨nt, nq, nd⟩ := List.nodup_append.mp nn
      have lt : (sr_ids t).length = R.length := by rw [← sr_len a4 a10 a11 a12, st]
      have lq : (sr_ids q).length = n := by rw [← sr_len a4 a10 a11 a12, sq, List.length_take]; omega
      have hfree := sr_free us (by rw [List.length_append, lt, lq]; omega)
      have hv : sr_bv (M.getD n 0) := by
        refine hbM _ ?_
        rw [sr_spn M n hn']
        have : (M.take n).length = n := by rw [List.length_take]; omega
        refine List.mem_append_right _ ?_
        rw [← sr_spn M n hn']
        exact List.mem_cons_self
      refine sr_make hb hv hfree (fun x a1' a2' a3' a4' a5' a6' a7' a8' a9' a10' a11' a12' hx ux ox sx ou => ?_)
      dsimp only
      have xn : x ∉ sr_ids t ++ sr_ids q := (us x hx.1 hx.2).mp ux
      have xt : x ∉ sr_ids t := fun z => xn (List.mem_append_left _ z)
      have xq : x ∉ sr_ids q := fun z => xn (List.mem_append_right _ z)
      have in1 : ∀ {S : List Nat}, x ∉ S → ∀ k, k ∈ S → k ∉ [x] := fun h k hk z => h ((List.mem_singleton.mp z) ▸ hk)
      obtain ⟨ot1, st1⟩ := sr_keep ot ou (in1 xt)
      obtain ⟨oq1, sq1⟩ := sr_keep oq ou (in1 xq)
      have hb1 := sr_b0_o ou (fun z => absurd (List.mem_singleton.mp z) (by omega)) hb
      have nqx : (sr_ids q ++ sr_ids (.branch x sr_lef sr_lef)).Nodup := by
        show (sr_ids q ++ [x]).Nodup
        exact List.Perm.nodup (l := [x] ++ sr_ids q) List.perm_append_comm (List.nodup_cons.mpr ⟨xq, nq⟩)
      refine sr_join (t1 := q) (t2 := .branch x sr_lef sr_lef) hb1 oq1 ox nqx (fun a1q a2q a3q a4q a5q a6q a7q a8q a9q a10q a11q a12q tt o2 s2 p2 ou2 => ?_)
      dsimp only
      have hdis : ∀ k, k ∈ sr_ids t → k ∉ sr_ids q ++ sr_ids (.branch x sr_lef sr_lef) := fun k hk z => (List.mem_append.mp z).elim (fun w => nd k hk k w rfl) (fun w => xt ((List.mem_singleton.mp (show k ∈ [x] from w)) ▸ hk))
      obtain ⟨ot2, st2⟩ := sr_keep ot1 ou2 hdis
      have hb2 := sr_b0_o ou2 (fun z => (List.mem_append.mp z).elim (sr_no0 oq1) (sr_no0 ox)) hb1
      have pm : (sr_ids t ++ sr_ids tt).Perm (x :: (sr_ids t ++ sr_ids q)) := by
        refine (p2.append_left (sr_ids t)).trans ?_
        show (sr_ids t ++ (sr_ids q ++ [x])).Perm _
        rw [List.perm_iff_count]
        intro k
        simp only [List.count_append, List.count_cons, List.count_nil]
        omega
      refine nm_r (nI_1 n) (ih (n + 1) _ _ _ _ _ _ _ _ _ _ _ _ _ _ _ _ _ _ _ _ t tt (by omega) (by omega) ?_ rfl ?_ ?_ hcy)
      · refine ⟨hr, hb2, ?_, ?_, List.Perm.nodup pm.symm (List.nodup_cons.mpr ⟨xn, nn⟩), sr_use_add us (fun k => ?_)⟩
        · exact sr_ok_s _ _ ot2 (fun k _ => ⟨⟨rfl, rfl, rfl, rfl⟩, ⟨rfl, rfl, rfl, rfl⟩, ⟨rfl, rfl⟩, rfl⟩)
        · exact sr_ok_s _ _ o2 (fun k _ => ⟨⟨rfl, rfl, rfl, rfl⟩, ⟨rfl, rfl, rfl, rfl⟩, ⟨rfl, rfl⟩, rfl⟩)
        · rw [pm.mem_iff, List.mem_cons]
      · exact Eq.trans st2 (Eq.trans st1 st)
      · rw [s2, sx, show sr_seq a4' a10' a11' a12' q = sr_seq a4 a10 a11 a12 q from sq1, sq]
        exact sr_tkn M n hn'
theorem sr_c37 {post : Int32 → St1 → Prop} {A M B C : List Int32} (hl : (A ++ M ++ B).length + M.length ≤ 48) (H : ∀ r u', sr_I u' (A ++ M ++ B) M → post r u') :
    ∀ (fu n : Nat) (a1 a2 a3 a4 a5 a6 a7 a8 a9 a10 a11 a12 a13 a14 a15 : Nat → Int32) (f1 f2 f3 f4 f5 : Int32) (t q : sr_T), M.length < fu + n → n ≤ M.length → sr_K (f1, f2, f3, f4, f5, a1, a2, a3, a4, a5, a6, a7, a8, a9, a10, a11, a12, a13, a14, a15) t q → f2 = nI (sr_rt q) → sr_seq a4 a10 a11 a12 t = A ++ M ++ B → sr_seq a4 a10 a11 a12 q = C → (∀ j, j < n → a15 j = M.getD j 0) → wX_copy_37 post (nI A.length) (nI M.length) fu (nI n) f1 f2 f3 f4 f5 a1 a2 a3 a4 a5 a6 a7 a8 a9 a10 a11 a12 a13 a14 a15 := by
  intro fu
  induction fu with
  | zero => intro n a1 a2 a3 a4 a5 a6 a7 a8 a9 a10 a11 a12 a13 a14 a15 f1 f2 f3 f4 f5 t q h1 h2; omega
  | succ w ih =>
    intro n a1 a2 a3 a4 a5 a6 a7 a8 a9 a10 a11 a12 a13 a14 a15 f1 f2 f3 f4 f5 t q hf hn k hc st sq hcy
    have bd := (sr_K_bd k).1
    have bd : sr_bd (A ++ M ++ B) := by rw [← st]; exact bd
    have bdM : sr_bd M := (sr_bd_app.mp (sr_bd_app.mp bd).1).2
    rw [wX_copy_37, sr_e_get]
    by_cases h : n = M.length
    · refine br_t (by rw [h]; exact sr_ler _) ?_
      subst hc
      obtain ⟨hr, hb, ot, oq, nn, us⟩ := k
      obtain ⟨nt, nq, nd⟩ := List.nodup_append.mp nn
      refine sr_release oq nq (fun b13 b14 r1 r2 => ?_)
      dsimp only
      refine ⟨M.length + 1, sr_c80 hl bdM H (M.length + 1) 0 _ _ _ _ _ _ _ _ _ _ _ _ _ _ _ _ _ _ _ _ t sr_lef (by omega) (by omega) ?_ nI_0.symm st rfl (fun j hj => hcy j (by omega))⟩
      refine ⟨hr, hb, sr_ok_s _ _ ot (fun k _ => ⟨⟨rfl, rfl, rfl, rfl⟩, ⟨rfl, rfl, rfl, rfl⟩, ⟨rfl, rfl⟩, rfl⟩), trivial, ?_, ?_⟩
      · rw [show sr_ids sr_lef = [] from rfl, List.append_nil]; exact nt
      · rw [show sr_ids sr_lef = [] from rfl, List.append_nil]
        intro k h1 h2
        show b13 k = 0 ↔ _
        by_cases hk : k ∈ sr_ids q
        · exact ⟨fun _ z => nd k z k hk rfl, fun _ => r2 k hk⟩
        · rw [r1 k hk]
          have := us k h1 h2
          rw [List.mem_append] at this
          exact ⟨fun z w => this.mp z (Or.inl w), fun z => this.mpr (fun w => w.elim z hk)⟩
    · have hn' : n < M.length := by omega
      have l0 : (A ++ M ++ B).length = A.length + M.length + B.length := by rw [List.length_append, List.length_append]
      refine br_f (nI_ge hn' (by omega)) ?_
      have tl : (M.take n).length = n := by rw [List.length_take]; omega
      have la : (A ++ M.take n).length = A.length + n := by rw [List.length_append, tl]
      have split : A ++ M ++ B = (A ++ M.take n) ++ M.getD n 0 :: (M.drop (n + 1) ++ B) := by
        conv => lhs; rw [sr_spn M n hn']
        rw [List.append_assoc, List.append_assoc, List.append_assoc, List.cons_append]
      rw [nI_add, ← la]
      refine sr_getK k (st.trans split) (fun u' t' k' c' cy s1 s2 => ?_)
      obtain ⟨f1', f2', f3', f4', f5', a1', a2', a3', a4', a5', a6', a7', a8', a9', a10', a11', a12', a13', a14', a15'⟩ := u'
      dsimp only
      have cy : a15' = a15 := cy
      refine ⟨pk_in n 48 (by omega), nm_e (nm_r (nI_1 n) ?_)⟩
      rw [nI_clamp (show n < 2 ^ 31 by omega)]
      refine ih (n + 1) _ _ _ _ _ _ _ _ _ _ _ _ _ _ _ _ _ _ _ _ t' q (by omega) (by omega) (sr_K_y k') (Eq.trans c' hc) (Eq.trans s1 split.symm) (Eq.trans s2 sq) (fun j hj => ?_)
      by_cases e : j = n
      · rw [e, pk_us]
      · rw [pk_un e, cy]
        exact hcy j (by omega)
theorem sr_copy {post : Int32 → St1 → Prop} {u : St1} {A M B C : List Int32} (h : sr_I u (A ++ M ++ B) C)
    (Hf : 48 < (A ++ M ++ B).length + M.length → post (-2) u) (Ht : (A ++ M ++ B).length + M.length ≤ 48 → ∀ r u', sr_I u' (A ++ M ++ B) M → post r u') : wpX_copy post u (nI A.length) (nI (A.length + M.length)) := by
  obtain ⟨t, q, k, hc, st, sq⟩ := h
  have e := sr_K_sz k
  have hle : A.length + M.length ≤ (sr_sq u t).length := by rw [st, List.length_append, List.length_append]; omega
  have l48 := sr_K_48 k
  obtain ⟨f1, f2, f3, f4, f5, a1, a2, a3, a4, a5, a6, a7, a8, a9, a10, a11, a12, a13, a14, a15⟩ := u
  have hr : f1 = nI (sr_rt t) := k.1
  subst hr
  have e1 : a5 (sr_rt t) = nI (A ++ M ++ B).length := by rw [← st]; exact e.1
  have l48' : (A ++ M ++ B).length ≤ 48 := by rw [← st]; omega
  unfold wpX_copy
  dsimp only
  refine sr_badK k (by omega) hle (br_t rfl (nm_r (e' := nI M.length) ?_ ⟨sr_vi e.2.2.1, ?_⟩))
  · rw [pk_sub (by omega), show A.length + M.length - A.length = M.length by omega]
  · rw [sr_cl0 e.2.2.1, e1, nI_add]
    refine pk_le _ 48 (fun g => ⟨M.length + 1, sr_c37 g (Ht g) (M.length + 1) 0 _ _ _ _ _ _ _ _ _ _ _ _ _ _ _ _ _ _ _ _ t q (by omega) (by omega) k hc st sq (fun j hj => absurd hj (Nat.not_lt_zero _))⟩) (fun g => Hf g)
end
section
/-! one turn of the law: what it leaves does not hang on the object -/
theorem sr_tv : ∀ a, a < 64 → (-1000000 ≤ (nI a - 20).toInt ∧ (nI a - 20).toInt ≤ 1000000) := by decide +kernel
theorem sr_td : ∀ a, a < 8 → (-1000000 ≤ (nI a - 3).toInt ∧ (nI a - 3).toInt ≤ 1000000) := by decide +kernel
theorem sr_tr : ∀ a, a < 64 → ∀ b, b < 8 → ∀ n, n < 8 → (-1000000 ≤ (nI a - 20 + nI n * (nI b - 3)).toInt ∧ (nI a - 20 + nI n * (nI b - 3)).toInt ≤ 1000000) := by decide +kernel
theorem sr_cut3 (R : List Int32) (i w : Nat) (h : i + w ≤ R.length) : ∃ A M B : List Int32, R = A ++ M ++ B ∧ A.length = i ∧ M.length = w := by
  refine ⟨R.take i, (R.drop i).take w, (R.drop i).drop w, ?_, ?_, ?_⟩
  · rw [List.append_assoc, List.take_append_drop, List.take_append_drop]
  · rw [List.length_take]; omega
  · rw [List.length_take, List.length_drop]; omega
theorem sr_eqf {o c : Nat} (h : o ≠ c) (ho : o < 2 ^ 31) (hc : c < 2 ^ 31) : ¬ nI o = nI c := fun z => h ((nI_eq ho hc).mp z)
theorem sr_turn (R C : List Int32) (op x : Int32) (hl : R.length ≤ 48) : ∃ R' C', ∀ (u : St1), sr_I u R C → ∀ (post : Int32 → St1 → Prop), (∀ r u', sr_I u' R' C' → post r u') → wpL_turn post u op x := by
  obtain ⟨o, ho, eo⟩ := pk_andE op (m := 15) 4 (by decide)
  obtain ⟨i0, hi0, ei0⟩ := pk_andE x (m := 63) 6 (by decide)
  obtain ⟨j0, hj0, ej0⟩ := pk_andE (x >>> ((6 : Int32) &&& 31)) (m := 63) 6 (by decide)
  obtain ⟨v0, hv0, ev0⟩ := pk_andE (x >>> ((12 : Int32) &&& 31)) (m := 63) 6 (by decide)
  obtain ⟨m0, hm0, em0⟩ := pk_andE (x >>> ((6 : Int32) &&& 31)) (m := 7) 3 (by decide)
  obtain ⟨d0, hd0, ed0⟩ := pk_andE (x >>> ((18 : Int32) &&& 31)) (m := 7) 3 (by decide)
  obtain ⟨k0, hk0, ek0⟩ := pk_andE (x >>> ((18 : Int32) &&& 31)) (m := 31) 5 (by decide)
  have ho : o < 16 := ho
  have hi0 : i0 < 64 := hi0
  have hj0 : j0 < 64 := hj0
  have hv0 : v0 < 64 := hv0
  have hm0 : m0 < 8 := hm0
  have hd0 : d0 < 8 := hd0
  have hk0 : k0 < 32 := hk0
  have hi : i0 % (R.length + 1) ≤ R.length := Nat.le_of_lt_succ (Nat.mod_lt _ (by omega))
  have hj : j0 % (R.length - i0 % (R.length + 1) + 1) ≤ R.length - i0 % (R.length + 1) := Nat.le_of_lt_succ (Nat.mod_lt _ (by omega))
  obtain ⟨A, M, B, hR, hA, hM⟩ := sr_cut3 R (i0 % (R.length + 1)) (j0 % (R.length - i0 % (R.length + 1) + 1)) (by omega)
  rw [← hA] at hi hj hM
  have hlen : R.length = A.length + M.length + B.length := by rw [hR, List.length_append, List.length_append]
  have ne1 : ¬ nI R.length + 1 = 0 := by rw [nI_1]; exact nI_ne0 (by omega) (by omega)
  have e5 : (x &&& 63) - (x &&& 63) / (nI R.length + 1) * (nI R.length + 1) = nI A.length := by
    rw [ei0, nI_1, pk_rem (by omega) (by omega) (by omega), hA]
  have ne2 : ¬ nI R.length - nI A.length + 1 = 0 := by rw [pk_sub hi, nI_1]; exact nI_ne0 (by omega) (by omega)
  have e6 : nI A.length + (((x >>> ((6 : Int32) &&& 31)) &&& 63) - ((x >>> ((6 : Int32) &&& 31)) &&& 63) / (nI R.length - nI A.length + 1) * (nI R.length - nI A.length + 1)) = nI (A.length + M.length) := by
    rw [ej0, pk_sub hi, nI_1, pk_rem (by omega) (by omega) (by omega), nI_add, hM]
  have e7 : ((x >>> ((12 : Int32) &&& 31)) &&& 63) - 20 = nI v0 - 20 := by rw [ev0]
  have bv : sr_bv (nI v0 - 20) := sr_tv v0 hv0
  have bd : sr_bv (nI d0 - 3) := sr_td d0 hd0
  have h3 : A ++ M ++ B = A ++ (M ++ B) := List.append_assoc _ _ _
  by_cases c3 : o < 3
  · rw [h3] at hR
    by_cases hf : (A ++ (M ++ B)).length + C.length = 48
    · refine ⟨R, C, ?_⟩
      intro u h post H
      have hK : sr_I u (A ++ (M ++ B)) C := hR ▸ h
      obtain ⟨t, q, k, hc, st, sq⟩ := id h
      obtain ⟨f1, f2, f3, f4, f5, a1, a2, a3, a4, a5, a6, a7, a8, a9, a10, a11, a12, a13, a14, a15⟩ := u
      unfold wpL_turn
      dsimp only
      refine nm_r eo (sr_szK k ?_)
      rw [st]
      refine ⟨ne1, nm_r e5 ⟨ne2, nm_r e6 (nm_r e7 ?_)⟩⟩
      refine br_f (nI_ge (a := o) (b := 3) (by omega) (by decide)) ?_
      exact sr_insert hK bv (fun _ => H _ _ h) (fun z => absurd z (by omega))
    · refine ⟨A ++ [nI v0 - 20] ++ (M ++ B), C, ?_⟩
      intro u h post H
      have hK : sr_I u (A ++ (M ++ B)) C := hR ▸ h
      obtain ⟨t, q, k, hc, st, sq⟩ := id h
      obtain ⟨f1, f2, f3, f4, f5, a1, a2, a3, a4, a5, a6, a7, a8, a9, a10, a11, a12, a13, a14, a15⟩ := u
      unfold wpL_turn
      dsimp only
      refine nm_r eo (sr_szK k ?_)
      rw [st]
      refine ⟨ne1, nm_r e5 ⟨ne2, nm_r e6 (nm_r e7 ?_)⟩⟩
      refine br_f (nI_ge (a := o) (b := 3) (by omega) (by decide)) ?_
      exact sr_insert hK bv (fun z => absurd z hf) (fun _ => (fun r u' h' => by obtain ⟨f1', f2', f3', f4', f5', a1', a2', a3', a4', a5', a6', a7', a8', a9', a10', a11', a12', a13', a14', a15'⟩ := u'; exact H _ _ h'))
  by_cases c6 : o < 6
  · rw [h3] at hR
    have hbv : ∀ n, n < m0 → sr_bv (nI v0 - 20 + nI n * (nI d0 - 3)) := fun n hn => sr_tr v0 hv0 d0 hd0 n (by omega)
    by_cases hf : 48 < (A ++ (M ++ B)).length + C.length + m0
    · refine ⟨R, C, ?_⟩
      intro u h post H
      have hK : sr_I u (A ++ (M ++ B)) C := hR ▸ h
      obtain ⟨t, q, k, hc, st, sq⟩ := id h
      obtain ⟨f1, f2, f3, f4, f5, a1, a2, a3, a4, a5, a6, a7, a8, a9, a10, a11, a12, a13, a14, a15⟩ := u
      unfold wpL_turn
      dsimp only
      refine nm_r eo (sr_szK k ?_)
      rw [st]
      refine ⟨ne1, nm_r e5 ⟨ne2, nm_r e6 (nm_r e7 ?_)⟩⟩
      refine br_t (nI_le (a := 3) (b := o) (by omega) (by omega)) (br_f (nI_ge (a := o) (b := 6) (by omega) (by decide)) ?_)
      rw [em0, ed0]
      exact sr_insertRun hK (by omega) bv bd hbv (fun _ => H _ _ h) (fun z => absurd hf (by omega))
    · refine ⟨A ++ sr_run (nI v0 - 20) (nI d0 - 3) m0 ++ (M ++ B), C, ?_⟩
      intro u h post H
      have hK : sr_I u (A ++ (M ++ B)) C := hR ▸ h
      obtain ⟨t, q, k, hc, st, sq⟩ := id h
      obtain ⟨f1, f2, f3, f4, f5, a1, a2, a3, a4, a5, a6, a7, a8, a9, a10, a11, a12, a13, a14, a15⟩ := u
      unfold wpL_turn
      dsimp only
      refine nm_r eo (sr_szK k ?_)
      rw [st]
      refine ⟨ne1, nm_r e5 ⟨ne2, nm_r e6 (nm_r e7 ?_)⟩⟩
      refine br_t (nI_le (a := 3) (b := o) (by omega) (by omega)) (br_f (nI_ge (a := o) (b := 6) (by omega) (by decide)) ?_)
      rw [em0, ed0]
      exact sr_insertRun hK (by omega) bv bd hbv (fun z => absurd z hf) (fun _ => (fun r u' h' => by obtain ⟨f1', f2', f3', f4', f5', a1', a2', a3', a4', a5', a6', a7', a8', a9', a10', a11', a12', a13', a14', a15'⟩ := u'; exact H _ _ h'))
  by_cases c6e : o = 6
  · rw [h3] at hR
    cases hMB : M ++ B with
    | nil =>
      rw [hMB, List.append_nil] at hR
      refine ⟨R, C, ?_⟩
      intro u h post H
      have hK : sr_I u A C := hR ▸ h
      obtain ⟨t, q, k, hc, st, sq⟩ := id h
      obtain ⟨f1, f2, f3, f4, f5, a1, a2, a3, a4, a5, a6, a7, a8, a9, a10, a11, a12, a13, a14, a15⟩ := u
      unfold wpL_turn
      dsimp only
      refine nm_r eo (sr_szK k ?_)
      rw [st]
      refine ⟨ne1, nm_r e5 ⟨ne2, nm_r e6 (nm_r e7 ?_)⟩⟩
      refine br_t (nI_le (a := 3) (b := o) (by omega) (by omega)) (br_t (nI_le (a := 6) (b := o) (by omega) (by omega)) (br_t (show nI o = nI 6 by rw [c6e]) ?_))
      exact sr_set0 hK (H _ _ h)
    | cons w B' =>
      rw [hMB] at hR
      refine ⟨A ++ (nI v0 - 20) :: B', C, ?_⟩
      intro u h post H
      have hK : sr_I u (A ++ w :: B') C := hR ▸ h
      obtain ⟨t, q, k, hc, st, sq⟩ := id h
      obtain ⟨f1, f2, f3, f4, f5, a1, a2, a3, a4, a5, a6, a7, a8, a9, a10, a11, a12, a13, a14, a15⟩ := u
      unfold wpL_turn
      dsimp only
      refine nm_r eo (sr_szK k ?_)
      rw [st]
      refine ⟨ne1, nm_r e5 ⟨ne2, nm_r e6 (nm_r e7 ?_)⟩⟩
      refine br_t (nI_le (a := 3) (b := o) (by omega) (by omega)) (br_t (nI_le (a := 6) (b := o) (by omega) (by omega)) (br_t (show nI o = nI 6 by rw [c6e]) ?_))
      exact sr_set hK bv (fun u' h' => by obtain ⟨f1', f2', f3', f4', f5', a1', a2', a3', a4', a5', a6', a7', a8', a9', a10', a11', a12', a13', a14', a15'⟩ := u'; exact H _ _ h')
  by_cases c7 : o = 7
  · refine ⟨A ++ B, M, ?_⟩
    intro u h post H
    have hK : sr_I u (A ++ M ++ B) C := hR ▸ h
    obtain ⟨t, q, k, hc, st, sq⟩ := id h
    obtain ⟨f1, f2, f3, f4, f5, a1, a2, a3, a4, a5, a6, a7, a8, a9, a10, a11, a12, a13, a14, a15⟩ := u
    unfold wpL_turn
    dsimp only
    refine nm_r eo (sr_szK k ?_)
    rw [st]
    refine ⟨ne1, nm_r e5 ⟨ne2, nm_r e6 (nm_r e7 ?_)⟩⟩
    refine br_t (nI_le (a := 3) (b := o) (by omega) (by omega)) (br_t (nI_le (a := 6) (b := o) (by omega) (by omega)) (br_f (sr_eqf (c := 6) (by omega) (by omega) (by omega)) (br_t (show nI o = nI 7 by rw [c7]) ?_)))
    exact sr_cut hK (fun u' h' => by obtain ⟨f1', f2', f3', f4', f5', a1', a2', a3', a4', a5', a6', a7', a8', a9', a10', a11', a12', a13', a14', a15'⟩ := u'; exact H _ _ h')
  by_cases c8 : o = 8
  · by_cases hf : 48 < (A ++ M ++ B).length + M.length
    · refine ⟨R, C, ?_⟩
      intro u h post H
      have hK : sr_I u (A ++ M ++ B) C := hR ▸ h
      obtain ⟨t, q, k, hc, st, sq⟩ := id h
      obtain ⟨f1, f2, f3, f4, f5, a1, a2, a3, a4, a5, a6, a7, a8, a9, a10, a11, a12, a13, a14, a15⟩ := u
      unfold wpL_turn
      dsimp only
      refine nm_r eo (sr_szK k ?_)
      rw [st]
      refine ⟨ne1, nm_r e5 ⟨ne2, nm_r e6 (nm_r e7 ?_)⟩⟩
      refine br_t (nI_le (a := 3) (b := o) (by omega) (by omega)) (br_t (nI_le (a := 6) (b := o) (by omega) (by omega)) (br_f (sr_eqf (c := 6) (by omega) (by omega) (by omega)) (br_f (sr_eqf (c := 7) (by omega) (by omega) (by omega)) (br_t (show nI o = nI 8 by rw [c8]) ?_))))
      exact sr_copy hK (fun _ => H _ _ h) (fun z => absurd hf (by omega))
    · refine ⟨A ++ M ++ B, M, ?_⟩
      intro u h post H
      have hK : sr_I u (A ++ M ++ B) C := hR ▸ h
      obtain ⟨t, q, k, hc, st, sq⟩ := id h
      obtain ⟨f1, f2, f3, f4, f5, a1, a2, a3, a4, a5, a6, a7, a8, a9, a10, a11, a12, a13, a14, a15⟩ := u
      unfold wpL_turn
      dsimp only
      refine nm_r eo (sr_szK k ?_)
      rw [st]
      refine ⟨ne1, nm_r e5 ⟨ne2, nm_r e6 (nm_r e7 ?_)⟩⟩
      refine br_t (nI_le (a := 3) (b := o) (by omega) (by omega)) (br_t (nI_le (a := 6) (b := o) (by omega) (by omega)) (br_f (sr_eqf (c := 6) (by omega) (by omega) (by omega)) (br_f (sr_eqf (c := 7) (by omega) (by omega) (by omega)) (br_t (show nI o = nI 8 by rw [c8]) ?_))))
      exact sr_copy hK (fun z => absurd z hf) (fun _ => (fun r u' h' => by obtain ⟨f1', f2', f3', f4', f5', a1', a2', a3', a4', a5', a6', a7', a8', a9', a10', a11', a12', a13', a14', a15'⟩ := u'; exact H _ _ h'))
  by_cases c11 : o < 11
  · rw [h3] at hR
    refine ⟨A ++ C ++ (M ++ B), [], ?_⟩
    intro u h post H
    have hK : sr_I u (A ++ (M ++ B)) C := hR ▸ h
    obtain ⟨t, q, k, hc, st, sq⟩ := id h
    obtain ⟨f1, f2, f3, f4, f5, a1, a2, a3, a4, a5, a6, a7, a8, a9, a10, a11, a12, a13, a14, a15⟩ := u
    unfold wpL_turn
    dsimp only
    refine nm_r eo (sr_szK k ?_)
    rw [st]
    refine ⟨ne1, nm_r e5 ⟨ne2, nm_r e6 (nm_r e7 ?_)⟩⟩
    refine br_t (nI_le (a := 3) (b := o) (by omega) (by omega)) (br_t (nI_le (a := 6) (b := o) (by omega) (by omega)) (br_f (sr_eqf (c := 6) (by omega) (by omega) (by omega)) (br_f (sr_eqf (c := 7) (by omega) (by omega) (by omega)) (br_f (sr_eqf (c := 8) (by omega) (by omega) (by omega)) (br_f (nI_ge (a := o) (b := 11) (by omega) (by decide)) ?_)))))
    exact sr_paste hK (fun u' h' => by obtain ⟨f1', f2', f3', f4', f5', a1', a2', a3', a4', a5', a6', a7', a8', a9', a10', a11', a12', a13', a14', a15'⟩ := u'; exact H _ _ h')
  by_cases c11e : o = 11
  · refine ⟨A ++ M.reverse ++ B, C, ?_⟩
    intro u h post H
    have hK : sr_I u (A ++ M ++ B) C := hR ▸ h
    obtain ⟨t, q, k, hc, st, sq⟩ := id h
    obtain ⟨f1, f2, f3, f4, f5, a1, a2, a3, a4, a5, a6, a7, a8, a9, a10, a11, a12, a13, a14, a15⟩ := u
    unfold wpL_turn
    dsimp only
    refine nm_r eo (sr_szK k ?_)
    rw [st]
    refine ⟨ne1, nm_r e5 ⟨ne2, nm_r e6 (nm_r e7 ?_)⟩⟩
    refine br_t (nI_le (a := 3) (b := o) (by omega) (by omega)) (br_t (nI_le (a := 6) (b := o) (by omega) (by omega)) (br_f (sr_eqf (c := 6) (by omega) (by omega) (by omega)) (br_f (sr_eqf (c := 7) (by omega) (by omega) (by omega)) (br_f (sr_eqf (c := 8) (by omega) (by omega) (by omega)) (br_t (nI_le (a := 11) (b := o) (by omega) (by omega)) (br_t (show nI o = nI 11 by rw [c11e]) ?_))))))
    exact sr_reverse hK (fun u' h' => by obtain ⟨f1', f2', f3', f4', f5', a1', a2', a3', a4', a5', a6', a7', a8', a9', a10', a11', a12', a13', a14', a15'⟩ := u'; exact H _ _ h')
  by_cases c12 : o = 12
  · by_cases hf : sr_fit (nI v0 - 20) M
    · refine ⟨A ++ M.map (fun y => y + (nI v0 - 20)) ++ B, C, ?_⟩
      intro u h post H
      have hK : sr_I u (A ++ M ++ B) C := hR ▸ h
      obtain ⟨t, q, k, hc, st, sq⟩ := id h
      obtain ⟨f1, f2, f3, f4, f5, a1, a2, a3, a4, a5, a6, a7, a8, a9, a10, a11, a12, a13, a14, a15⟩ := u
      unfold wpL_turn
      dsimp only
      refine nm_r eo (sr_szK k ?_)
      rw [st]
      refine ⟨ne1, nm_r e5 ⟨ne2, nm_r e6 (nm_r e7 ?_)⟩⟩
      refine br_t (nI_le (a := 3) (b := o) (by omega) (by omega)) (br_t (nI_le (a := 6) (b := o) (by omega) (by omega)) (br_f (sr_eqf (c := 6) (by omega) (by omega) (by omega)) (br_f (sr_eqf (c := 7) (by omega) (by omega) (by omega)) (br_f (sr_eqf (c := 8) (by omega) (by omega) (by omega)) (br_t (nI_le (a := 11) (b := o) (by omega) (by omega)) (br_f (sr_eqf (c := 11) (by omega) (by omega) (by omega)) (br_t (show nI o = nI 12 by rw [c12]) ?_)))))))
      exact sr_raise hK bv (fun _ => (fun u' h' => by obtain ⟨f1', f2', f3', f4', f5', a1', a2', a3', a4', a5', a6', a7', a8', a9', a10', a11', a12', a13', a14', a15'⟩ := u'; exact H _ _ h')) (fun z => absurd hf z)
    · refine ⟨A ++ M ++ B, C, ?_⟩
      intro u h post H
      have hK : sr_I u (A ++ M ++ B) C := hR ▸ h
      obtain ⟨t, q, k, hc, st, sq⟩ := id h
      obtain ⟨f1, f2, f3, f4, f5, a1, a2, a3, a4, a5, a6, a7, a8, a9, a10, a11, a12, a13, a14, a15⟩ := u
      unfold wpL_turn
      dsimp only
      refine nm_r eo (sr_szK k ?_)
      rw [st]
      refine ⟨ne1, nm_r e5 ⟨ne2, nm_r e6 (nm_r e7 ?_)⟩⟩
      refine br_t (nI_le (a := 3) (b := o) (by omega) (by omega)) (br_t (nI_le (a := 6) (b := o) (by omega) (by omega)) (br_f (sr_eqf (c := 6) (by omega) (by omega) (by omega)) (br_f (sr_eqf (c := 7) (by omega) (by omega) (by omega)) (br_f (sr_eqf (c := 8) (by omega) (by omega) (by omega)) (br_t (nI_le (a := 11) (b := o) (by omega) (by omega)) (br_f (sr_eqf (c := 11) (by omega) (by omega) (by omega)) (br_t (show nI o = nI 12 by rw [c12]) ?_)))))))
      exact sr_raise hK bv (fun z => absurd z hf) (fun _ => (fun u' h' => by obtain ⟨f1', f2', f3', f4', f5', a1', a2', a3', a4', a5', a6', a7', a8', a9', a10', a11', a12', a13', a14', a15'⟩ := u'; exact H _ _ h'))
  by_cases c13 : o = 13
  · refine ⟨A ++ M.map (fun y => -y) ++ B, C, ?_⟩
    intro u h post H
    have hK : sr_I u (A ++ M ++ B) C := hR ▸ h
    obtain ⟨t, q, k, hc, st, sq⟩ := id h
    obtain ⟨f1, f2, f3, f4, f5, a1, a2, a3, a4, a5, a6, a7, a8, a9, a10, a11, a12, a13, a14, a15⟩ := u
    unfold wpL_turn
    dsimp only
    refine nm_r eo (sr_szK k ?_)
    rw [st]
    refine ⟨ne1, nm_r e5 ⟨ne2, nm_r e6 (nm_r e7 ?_)⟩⟩
    refine br_t (nI_le (a := 3) (b := o) (by omega) (by omega)) (br_t (nI_le (a := 6) (b := o) (by omega) (by omega)) (br_f (sr_eqf (c := 6) (by omega) (by omega) (by omega)) (br_f (sr_eqf (c := 7) (by omega) (by omega) (by omega)) (br_f (sr_eqf (c := 8) (by omega) (by omega) (by omega)) (br_t (nI_le (a := 11) (b := o) (by omega) (by omega)) (br_f (sr_eqf (c := 11) (by omega) (by omega) (by omega)) (br_f (sr_eqf (c := 12) (by omega) (by omega) (by omega)) (br_t (show nI o = nI 13 by rw [c13]) ?_))))))))
    exact sr_negate hK (fun u' h' => by obtain ⟨f1', f2', f3', f4', f5', a1', a2', a3', a4', a5', a6', a7', a8', a9', a10', a11', a12', a13', a14', a15'⟩ := u'; exact H _ _ h')
  have hk : k0 % (M.length + 1) ≤ M.length := Nat.le_of_lt_succ (Nat.mod_lt _ (by omega))
  obtain ⟨M1, M2, M3, hM3, hM1, hM2⟩ := sr_cut3 M (k0 % (M.length + 1)) (M.length - k0 % (M.length + 1)) (by omega)
  have l3 : M.length = M1.length + M2.length + M3.length := by
    have := congrArg List.length hM3
    rw [List.length_append, List.length_append] at this
    exact this
  have z3 : M3 = [] := List.length_eq_zero_iff.mp (by omega)
  rw [z3, List.append_nil] at hM3
  have sub : nI (A.length + M.length) - nI A.length = nI M.length := by rw [pk_sub (by omega), show A.length + M.length - A.length = M.length by omega]
  have e8 : ((x >>> ((18 : Int32) &&& 31)) &&& 31) - ((x >>> ((18 : Int32) &&& 31)) &&& 31) / (nI (A.length + M.length) - nI A.length + 1) * (nI (A.length + M.length) - nI A.length + 1) = nI M1.length := by
    rw [sub, ek0, nI_1, pk_rem (by omega) (by omega) (by omega), hM1]
  refine ⟨A ++ (M2 ++ M1) ++ B, C, ?_⟩
  intro u h post H
  have hK : sr_I u (A ++ M ++ B) C := hR ▸ h
  obtain ⟨t, q, k, hc, st, sq⟩ := id h
  obtain ⟨f1, f2, f3, f4, f5, a1, a2, a3, a4, a5, a6, a7, a8, a9, a10, a11, a12, a13, a14, a15⟩ := u
  unfold wpL_turn
  dsimp only
  refine nm_r eo (sr_szK k ?_)
  rw [st]
  refine ⟨ne1, nm_r e5 ⟨ne2, nm_r e6 (nm_r e7 ?_)⟩⟩
  refine br_t (nI_le (a := 3) (b := o) (by omega) (by omega)) (br_t (nI_le (a := 6) (b := o) (by omega) (by omega)) (br_f (sr_eqf (c := 6) (by omega) (by omega) (by omega)) (br_f (sr_eqf (c := 7) (by omega) (by omega) (by omega)) (br_f (sr_eqf (c := 8) (by omega) (by omega) (by omega)) (br_t (nI_le (a := 11) (b := o) (by omega) (by omega)) (br_f (sr_eqf (c := 11) (by omega) (by omega) (by omega)) (br_f (sr_eqf (c := 12) (by omega) (by omega) (by omega)) (br_f (sr_eqf (c := 13) (by omega) (by omega) (by omega)) (And.intro (by rw [sub, nI_1]; exact nI_ne0 (by omega) (by omega)) ?_)))))))))
  rw [e8]
  rw [hM3] at hK
  rw [hM3]
  exact sr_rotate hK (fun u' h' => by obtain ⟨f1', f2', f3', f4', f5', a1', a2', a3', a4', a5', a6', a7', a8', a9', a10', a11', a12', a13', a14', a15'⟩ := u'; exact H _ _ h')
end
section
/-! two objects: equal, and the calls as the law makes them -/
theorem sr_len0 (R : List Int32) : ∀ n, R.length ≤ n → R.getD n 0 = 0 := by
  induction R with
  | nil => intro n _; rfl
  | cons y R ih =>
    intro n h
    cases n with
    | zero => exact absurd h (Nat.not_succ_le_zero _)
    | succ n => exact ih n (Nat.le_of_succ_le_succ h)
theorem sr_getI {post : Int32 → St1 → Prop} {u : St1} {R C : List Int32} {n : Nat} (h : sr_I u R C) (hn : n < 2 ^ 31) (H : ∀ u', sr_I u' R C → post (R.getD n 0) u') : wpX_get post u (nI n) := by
  obtain ⟨t, q, k, hc, st, sq⟩ := id h
  by_cases g : n < R.length
  · have sp := sr_spn R n g
    have tl : (R.take n).length = n := by rw [List.length_take]; omega
    have st' := st.trans sp
    have key := sr_getK (post := post) (A := R.take n) k st' (fun u' t' k' c' _ s1 s2 => H u' ⟨t', q, k', c'.trans hc, s1.trans sp.symm, s2.trans sq⟩)
    rw [tl] at key
    exact key
  · have e := H u h
    rw [sr_len0 R n (by omega)] at e
    exact sr_get0 k (by rw [st]; omega) hn e
theorem sr_I_48 {u : St1} {R C : List Int32} (h : sr_I u R C) : R.length + C.length ≤ 48 := by
  obtain ⟨t, q, k, hc, st, sq⟩ := h
  have := sr_K_48 k
  rw [st, sq] at this
  exact this
theorem sr_I_bd {u : St1} {R C : List Int32} (h : sr_I u R C) : sr_bd R := by
  obtain ⟨t, q, k, hc, st, sq⟩ := h
  have := (sr_K_bd k).1
  rw [st] at this
  exact this
theorem sr_szI {post : Int32 → Prop} {u : St1} {R C : List Int32} (h : sr_I u R C) (H : post (nI R.length)) : wpX_size post u := by
  obtain ⟨t, q, k, hc, st, sq⟩ := h
  refine sr_szK k ?_
  rw [st]
  exact H
theorem sr_clI {post : Int32 → Prop} {u : St1} {R C : List Int32} (h : sr_I u R C) (H : post (nI C.length)) : wpX_clip post u := by
  obtain ⟨t, q, k, hc, st, sq⟩ := h
  have e := sr_K_sz k
  obtain ⟨f1, f2, f3, f4, f5, a1, a2, a3, a4, a5, a6, a7, a8, a9, a10, a11, a12, a13, a14, a15⟩ := u
  have hc : f2 = nI (sr_rt q) := hc
  have e2 : a5 (sr_rt q) = nI C.length := by rw [← sq]; exact e.2.1
  unfold wpX_clip
  dsimp only
  rw [hc, sr_cl0 e.2.2.2, e2]
  exact ⟨sr_vi e.2.2.2, H⟩
theorem sr_eq2 {post : Int32 → St2 → Prop} {R C D : List Int32} (H : ∀ (f1' f2' f3' f4' f5' : Int32) (a1' a2' a3' a4' a5' a6' a7' a8' a9' a10' a11' a12' a13' a14' a15' : Nat → Int32) (g1' g2' g3' g4' g5' : Int32) (b1' b2' b3' b4' b5' b6' b7' b8' b9' b10' b11' b12' b13' b14' b15' : Nat → Int32), sr_I (f1', f2', f3', f4', f5', a1', a2', a3', a4', a5', a6', a7', a8', a9', a10', a11', a12', a13', a14', a15') R C → sr_I (g1', g2', g3', g4', g5', b1', b2', b3', b4', b5', b6', b7', b8', b9', b10', b11', b12', b13', b14', b15') R D → post 1 (f1', f2', f3', f4', f5', a1', a2', a3', a4', a5', a6', a7', a8', a9', a10', a11', a12', a13', a14', a15', g1', g2', g3', g4', g5', b1', b2', b3', b4', b5', b6', b7', b8', b9', b10', b11', b12', b13', b14', b15')) :
    ∀ (fu n : Nat) (f1 f2 f3 f4 f5 : Int32) (a1 a2 a3 a4 a5 a6 a7 a8 a9 a10 a11 a12 a13 a14 a15 : Nat → Int32) (g1 g2 g3 g4 g5 : Int32) (b1 b2 b3 b4 b5 b6 b7 b8 b9 b10 b11 b12 b13 b14 b15 : Nat → Int32), 48 < fu + n → n ≤ 48 → sr_I (f1, f2, f3, f4, f5, a1, a2, a3, a4, a5, a6, a7, a8, a9, a10, a11, a12, a13, a14, a15) R C → sr_I (g1, g2, g3, g4, g5, b1, b2, b3, b4, b5, b6, b7, b8, b9, b10, b11, b12, b13, b14, b15) R D → wL_equal_2 post fu (nI n) f1 f2 f3 f4 f5 a1 a2 a3 a4 a5 a6 a7 a8 a9 a10 a11 a12 a13 a14 a15 g1 g2 g3 g4 g5 b1 b2 b3 b4 b5 b6 b7 b8 b9 b10 b11 b12 b13 b14 b15 := by
  intro fu
  induction fu with
  | zero => intro n f1 f2 f3 f4 f5 a1 a2 a3 a4 a5 a6 a7 a8 a9 a10 a11 a12 a13 a14 a15 g1 g2 g3 g4 g5 b1 b2 b3 b4 b5 b6 b7 b8 b9 b10 b11 b12 b13 b14 b15 h1 h2; omega
  | succ w ih =>
    intro n f1 f2 f3 f4 f5 a1 a2 a3 a4 a5 a6 a7 a8 a9 a10 a11 a12 a13 a14 a15 g1 g2 g3 g4 g5 b1 b2 b3 b4 b5 b6 b7 b8 b9 b10 b11 b12 b13 b14 b15 hf hn i1 i2
    rw [wL_equal_2]
    by_cases h : n = 48
    · refine br_t (by rw [h]; exact sr_ler _) (sr_szI i1 (sr_szI i2 (br_t rfl ?_)))
      exact H _ _ _ _ _ _ _ _ _ _ _ _ _ _ _ _ _ _ _ _ _ _ _ _ _ _ _ _ _ _ _ _ _ _ _ _ _ _ _ _ i1 i2
    · refine br_f (nI_ge (b := 48) (by omega) (by decide)) (sr_getI i1 (by omega) (fun u' j1 => ?_))
      obtain ⟨f1', f2', f3', f4', f5', a1', a2', a3', a4', a5', a6', a7', a8', a9', a10', a11', a12', a13', a14', a15'⟩ := u'
      dsimp only
      refine sr_getI i2 (by omega) (fun w' j2 => ?_)
      obtain ⟨g1', g2', g3', g4', g5', b1', b2', b3', b4', b5', b6', b7', b8', b9', b10', b11', b12', b13', b14', b15'⟩ := w'
      dsimp only
      refine br_t rfl (nm_r (nI_1 n) (ih (n + 1) _ _ _ _ _ _ _ _ _ _ _ _ _ _ _ _ _ _ _ _ _ _ _ _ _ _ _ _ _ _ _ _ _ _ _ _ _ _ _ _ (by omega) (by omega) j1 j2))
theorem sr_equal {post : Int32 → St2 → Prop} {R C D : List Int32} {f1 f2 f3 f4 f5 : Int32} {a1 a2 a3 a4 a5 a6 a7 a8 a9 a10 a11 a12 a13 a14 a15 : Nat → Int32} {g1 g2 g3 g4 g5 : Int32} {b1 b2 b3 b4 b5 b6 b7 b8 b9 b10 b11 b12 b13 b14 b15 : Nat → Int32}
    (i1 : sr_I (f1, f2, f3, f4, f5, a1, a2, a3, a4, a5, a6, a7, a8, a9, a10, a11, a12, a13, a14, a15) R C) (i2 : sr_I (g1, g2, g3, g4, g5, b1, b2, b3, b4, b5, b6, b7, b8, b9, b10, b11, b12, b13, b14, b15) R D) (H : ∀ (f1' f2' f3' f4' f5' : Int32) (a1' a2' a3' a4' a5' a6' a7' a8' a9' a10' a11' a12' a13' a14' a15' : Nat → Int32) (g1' g2' g3' g4' g5' : Int32) (b1' b2' b3' b4' b5' b6' b7' b8' b9' b10' b11' b12' b13' b14' b15' : Nat → Int32), sr_I (f1', f2', f3', f4', f5', a1', a2', a3', a4', a5', a6', a7', a8', a9', a10', a11', a12', a13', a14', a15') R C → sr_I (g1', g2', g3', g4', g5', b1', b2', b3', b4', b5', b6', b7', b8', b9', b10', b11', b12', b13', b14', b15') R D → post 1 (f1', f2', f3', f4', f5', a1', a2', a3', a4', a5', a6', a7', a8', a9', a10', a11', a12', a13', a14', a15', g1', g2', g3', g4', g5', b1', b2', b3', b4', b5', b6', b7', b8', b9', b10', b11', b12', b13', b14', b15')) : wpL_equal post (f1, f2, f3, f4, f5, a1, a2, a3, a4, a5, a6, a7, a8, a9, a10, a11, a12, a13, a14, a15, g1, g2, g3, g4, g5, b1, b2, b3, b4, b5, b6, b7, b8, b9, b10, b11, b12, b13, b14, b15) := by
  unfold wpL_equal
  dsimp only
  exact ⟨49, sr_eq2 H 49 0 _ _ _ _ _ _ _ _ _ _ _ _ _ _ _ _ _ _ _ _ _ _ _ _ _ _ _ _ _ _ _ _ _ _ _ _ _ _ _ _ (by omega) (by omega) i1 i2⟩
theorem sr_sum0 {post : Int32 → St1 → Prop} {u : St1} {R C : List Int32} (h : sr_I u R C) (H : ∀ u', sr_I u' R C → post (sr_sum R) u') : wpX_sum post u 0 (nI R.length) := by
  have e : ([] : List Int32) ++ R ++ [] = R := by rw [List.append_nil]; rfl
  have key := sr_sumS (post := post) (u := u) (A := []) (M := R) (B := []) (C := C) (by rw [e]; exact h) (fun u' h' => H u' (by rw [e] at h'; exact h'))
  have z : ([] : List Int32).length + R.length = R.length := Nat.zero_add _
  rw [z] at key
  exact key
theorem sr_rev2 {post : Int32 → St1 → Prop} {u : St1} {A M B C : List Int32} {m : Nat} (h : sr_I u (A ++ M ++ B) C) (hm : M.length = m) (H : ∀ u', sr_I u' (A ++ M.reverse ++ B) C → post (nI m) u') : wpX_reverse post u (nI A.length) (nI (A.length + m)) := by
  subst hm
  exact sr_reverse h H
theorem sr_neg2 {post : Int32 → St1 → Prop} {u : St1} {A M B C : List Int32} {m : Nat} (h : sr_I u (A ++ M ++ B) C) (hm : M.length = m) (H : ∀ u', sr_I u' (A ++ M.map (fun y => -y) ++ B) C → post (nI m) u') : wpX_negate post u (nI A.length) (nI (A.length + m)) := by
  subst hm
  exact sr_negate h H
theorem sr_rai2 {post : Int32 → St1 → Prop} {u : St1} {A M B C : List Int32} {m : Nat} {d : Int32} (h : sr_I u (A ++ M ++ B) C) (hm : M.length = m) (hd : sr_bv d)
    (Ht : sr_fit d M → ∀ u', sr_I u' (A ++ M.map (fun y => y + d) ++ B) C → post (nI m) u') (Hf : ¬ sr_fit d M → ∀ u', sr_I u' (A ++ M ++ B) C → post (-1) u') : wpX_raise post u (nI A.length) (nI (A.length + m)) d := by
  subst hm
  exact sr_raise h hd Ht Hf
theorem sr_rot2 {post : Int32 → St1 → Prop} {u : St1} {A M1 M2 B C : List Int32} {m : Nat} (h : sr_I u (A ++ (M1 ++ M2) ++ B) C) (hm : (M1 ++ M2).length = m) (H : ∀ u', sr_I u' (A ++ (M2 ++ M1) ++ B) C → post 0 u') : wpX_rotate post u (nI A.length) (nI (A.length + m)) (nI M1.length) := by
  subst hm
  exact sr_rotate h H
theorem sr_cut2 {post : Int32 → St1 → Prop} {u : St1} {A M B C : List Int32} {m : Nat} (h : sr_I u (A ++ M ++ B) C) (hm : M.length = m) (H : ∀ u', sr_I u' (A ++ B) M → post (nI m) u') : wpX_cut post u (nI A.length) (nI (A.length + m)) := by
  subst hm
  exact sr_cut h H
theorem sr_nn (M : List Int32) : (M.map (fun y => -y)).map (fun y => -y) = M := by
  rw [List.map_map]
  conv => rhs; rw [← List.map_id M]
  apply List.map_congr_left
  intro y _
  exact Int32.neg_neg
theorem sr_pm (M : List Int32) (d : Int32) : (M.map (fun y => y + d)).map (fun y => y + -d) = M := by
  rw [List.map_map]
  conv => rhs; rw [← List.map_id M]
  apply List.map_congr_left
  intro y _
  show y + d + -d = y
  grind
theorem sr_fit2 {M : List Int32} {d : Int32} (hM : sr_bd M) (hd : sr_bv d) : sr_fit (-d) (M.map (fun y => y + d)) := by
  intro y hy
  obtain ⟨z, hz, rfl⟩ := List.mem_map.mp hy
  rw [sr_add_bv (hM z hz) hd, sr_in hd.1]
  have := hM z hz
  unfold sr_bv at this
  omega
end
section
/-! the law -/
theorem sr_t64 : ∀ a, a < 128 → (-1000000 ≤ (nI a - 64).toInt ∧ (nI a - 64).toInt ≤ 1000000) := by decide +kernel
theorem sr_l333 {post : Int32 → Prop} {L kc ks : Nat} {xs : Nat → Int32} {A M1 M2 B C : List Int32} {f1 f2 f3 f4 f5 : Int32} {a1 a2 a3 a4 a5 a6 a7 a8 a9 a10 a11 a12 a13 a14 a15 : Nat → Int32} {g1 g2 g3 g4 g5 : Int32} {b1 b2 b3 b4 b5 b6 b7 b8 b9 b10 b11 b12 b13 b14 b15 : Nat → Int32} (hp : post 1) (i1 : sr_I (f1, f2, f3, f4, f5, a1, a2, a3, a4, a5, a6, a7, a8, a9, a10, a11, a12, a13, a14, a15) (A ++ (M1 ++ M2) ++ B) C) (i2 : sr_I (g1, g2, g3, g4, g5, b1, b2, b3, b4, b5, b6, b7, b8, b9, b10, b11, b12, b13, b14, b15) (A ++ (M1 ++ M2) ++ B) C) :
    wL_law_333 post L xs (nI (A ++ (M1 ++ M2) ++ B).length) (nI A.length) (nI (A.length + (M1 ++ M2).length)) (nI M1.length) kc ks f1 f2 f3 f4 f5 a1 a2 a3 a4 a5 a6 a7 a8 a9 a10 a11 a12 a13 a14 a15 g1 g2 g3 g4 g5 b1 b2 b3 b4 b5 b6 b7 b8 b9 b10 b11 b12 b13 b14 b15 := by
  have l48 := sr_I_48 i1
  have l1 : (A ++ (M1 ++ M2) ++ B).length = A.length + (M1 ++ M2).length + B.length := by rw [List.length_append, List.length_append]
  have l2 : (M1 ++ M2).length = M1.length + M2.length := List.length_append
  have l3 : (A ++ B).length = A.length + B.length := List.length_append
  have sub : nI (A.length + (M1 ++ M2).length) - nI A.length = nI (M1 ++ M2).length := by rw [pk_sub (by omega), show A.length + (M1 ++ M2).length - A.length = (M1 ++ M2).length by omega]
  have sub2 : nI (M1 ++ M2).length - nI M1.length = nI M2.length := by rw [pk_sub (by omega), show (M1 ++ M2).length - M1.length = M2.length by omega]
  have sub3 : nI (A ++ (M1 ++ M2) ++ B).length - nI (M1 ++ M2).length = nI (A ++ B).length := by rw [pk_sub (by omega), show (A ++ (M1 ++ M2) ++ B).length - (M1 ++ M2).length = (A ++ B).length by omega]
  unfold wL_law_333
  rw [sub, sub2]
  refine sr_equal i1 i2 (fun f1' f2' f3' f4' f5' a1' a2' a3' a4' a5' a6' a7' a8' a9' a10' a11' a12' a13' a14' a15' g1' g2' g3' g4' g5' b1' b2' b3' b4' b5' b6' b7' b8' b9' b10' b11' b12' b13' b14' b15' j1 j2 => ?_)
  dsimp only
  refine br_f (by decide) (sr_rot2 j2 rfl (fun w j3 => ?_))
  obtain ⟨g1q, g2q, g3q, g4q, g5q, b1q, b2q, b3q, b4q, b5q, b6q, b7q, b8q, b9q, b10q, b11q, b12q, b13q, b14q, b15q⟩ := w
  dsimp only
  refine sr_rot2 (M1 := M2) (M2 := M1) j3 (by rw [List.length_append, l2]; omega) (fun w j4 => ?_)
  obtain ⟨g1w, g2w, g3w, g4w, g5w, b1w, b2w, b3w, b4w, b5w, b6w, b7w, b8w, b9w, b10w, b11w, b12w, b13w, b14w, b15w⟩ := w
  dsimp only
  refine br_t rfl (br_t rfl (sr_equal j1 j4 (fun f1z f2z f3z f4z f5z a1z a2z a3z a4z a5z a6z a7z a8z a9z a10z a11z a12z a13z a14z a15z g1z g2z g3z g4z g5z b1z b2z b3z b4z b5z b6z b7z b8z b9z b10z b11z b12z b13z b14z b15z k1 k2 => ?_)))
  dsimp only
  refine br_f (by decide) (sr_cut2 k2 rfl (fun w j5 => ?_))
  obtain ⟨g1r, g2r, g3r, g4r, g5r, b1r, b2r, b3r, b4r, b5r, b6r, b7r, b8r, b9r, b10r, b11r, b12r, b13r, b14r, b15r⟩ := w
  dsimp only
  refine sr_szI j5 (sr_clI j5 (sr_paste j5 (fun w j6 => ?_)))
  obtain ⟨g1s, g2s, g3s, g4s, g5s, b1s, b2s, b3s, b4s, b5s, b6s, b7s, b8s, b9s, b10s, b11s, b12s, b13s, b14s, b15s⟩ := w
  dsimp only
  refine br_t rfl (br_t sub3.symm (br_t rfl (br_t rfl (sr_clI j6 (br_t nI_0 (sr_equal k1 j6 (fun f1y f2y f3y f4y f5y a1y a2y a3y a4y a5y a6y a7y a8y a9y a10y a11y a12y a13y a14y a15y g1y g2y g3y g4y g5y b1y b2y b3y b4y b5y b6y b7y b8y b9y b10y b11y b12y b13y b14y b15y q1 q2 => ?_)))))))
  exact br_f (by decide) hp
theorem sr_l120 {post : Int32 → Prop} {L kc ks : Nat} {xs : Nat → Int32} {R C : List Int32} {x3 : Int32} {f1 f2 f3 f4 f5 : Int32} {a1 a2 a3 a4 a5 a6 a7 a8 a9 a10 a11 a12 a13 a14 a15 : Nat → Int32} {g1 g2 g3 g4 g5 : Int32} {b1 b2 b3 b4 b5 b6 b7 b8 b9 b10 b11 b12 b13 b14 b15 : Nat → Int32} (hp : post 1) (i1 : sr_I (f1, f2, f3, f4, f5, a1, a2, a3, a4, a5, a6, a7, a8, a9, a10, a11, a12, a13, a14, a15) R C) (i2 : sr_I (g1, g2, g3, g4, g5, b1, b2, b3, b4, b5, b6, b7, b8, b9, b10, b11, b12, b13, b14, b15) R C) :
    wL_law_120 post L xs x3 (nI R.length) (sr_sum R) kc ks f1 f2 f3 f4 f5 a1 a2 a3 a4 a5 a6 a7 a8 a9 a10 a11 a12 a13 a14 a15 g1 g2 g3 g4 g5 b1 b2 b3 b4 b5 b6 b7 b8 b9 b10 b11 b12 b13 b14 b15 := by
  have l48 := sr_I_48 i1
  have hl : R.length ≤ 48 := by omega
  obtain ⟨i0, hi0, ei0⟩ := pk_andE x3 (m := 63) 6 (by decide)
  obtain ⟨j0, hj0, ej0⟩ := pk_andE (x3 >>> ((6 : Int32) &&& 31)) (m := 63) 6 (by decide)
  obtain ⟨k0, hk0, ek0⟩ := pk_andE (x3 >>> ((12 : Int32) &&& 31)) (m := 63) 6 (by decide)
  obtain ⟨d0, hd0, ed0⟩ := pk_andE (x3 >>> ((18 : Int32) &&& 31)) (m := 127) 7 (by decide)
  have hi0 : i0 < 64 := hi0
  have hj0 : j0 < 64 := hj0
  have hk0 : k0 < 64 := hk0
  have hd0 : d0 < 128 := hd0
  have hi : i0 % (R.length + 1) ≤ R.length := Nat.le_of_lt_succ (Nat.mod_lt _ (by omega))
  have hj : j0 % (R.length - i0 % (R.length + 1) + 1) ≤ R.length - i0 % (R.length + 1) := Nat.le_of_lt_succ (Nat.mod_lt _ (by omega))
  obtain ⟨A, M, B, hR, hA, hM⟩ := sr_cut3 R (i0 % (R.length + 1)) (j0 % (R.length - i0 % (R.length + 1) + 1)) (by omega)
  rw [← hA] at hi hj hM
  have hlen : R.length = A.length + M.length + B.length := by rw [hR, List.length_append, List.length_append]
  have hk : k0 % (M.length + 1) ≤ M.length := Nat.le_of_lt_succ (Nat.mod_lt _ (by omega))
  obtain ⟨M1, M2, M3, hM3, hM1, hM2⟩ := sr_cut3 M (k0 % (M.length + 1)) (M.length - k0 % (M.length + 1)) (by omega)
  have l3 : M.length = M1.length + M2.length + M3.length := by
    have := congrArg List.length hM3
    rw [List.length_append, List.length_append] at this
    exact this
  have z3 : M3 = [] := List.length_eq_zero_iff.mp (by omega)
  rw [z3, List.append_nil] at hM3
  have ne1 : ¬ nI R.length + 1 = 0 := by rw [nI_1]; exact nI_ne0 (by omega) (by omega)
  have e5 : (x3 &&& 63) - (x3 &&& 63) / (nI R.length + 1) * (nI R.length + 1) = nI A.length := by
    rw [ei0, nI_1, pk_rem (by omega) (by omega) (by omega), hA]
  have ne2 : ¬ nI R.length - nI A.length + 1 = 0 := by rw [pk_sub hi, nI_1]; exact nI_ne0 (by omega) (by omega)
  have e6 : nI A.length + (((x3 >>> ((6 : Int32) &&& 31)) &&& 63) - ((x3 >>> ((6 : Int32) &&& 31)) &&& 63) / (nI R.length - nI A.length + 1) * (nI R.length - nI A.length + 1)) = nI (A.length + M.length) := by
    rw [ej0, pk_sub hi, nI_1, pk_rem (by omega) (by omega) (by omega), nI_add, hM]
  have sub : nI (A.length + M.length) - nI A.length = nI M.length := by rw [pk_sub (by omega), show A.length + M.length - A.length = M.length by omega]
  have ne3 : ¬ nI (A.length + M.length) - nI A.length + 1 = 0 := by rw [sub, nI_1]; exact nI_ne0 (by omega) (by omega)
  have e8 : ((x3 >>> ((12 : Int32) &&& 31)) &&& 63) - ((x3 >>> ((12 : Int32) &&& 31)) &&& 63) / (nI (A.length + M.length) - nI A.length + 1) * (nI (A.length + M.length) - nI A.length + 1) = nI M1.length := by
    rw [sub, ek0, nI_1, pk_rem (by omega) (by omega) (by omega), hM1]
  have e9 : ((x3 >>> ((18 : Int32) &&& 31)) &&& 127) - 64 = nI d0 - 64 := by rw [ed0]
  have bd : sr_bv (nI d0 - 64) := sr_t64 d0 hd0
  have bdn : sr_bv (-(nI d0 - 64)) := sr_bv_neg bd
  have bR := sr_I_bd i1
  have bM : sr_bd M := by
    rw [hR] at bR
    exact (sr_bd_app.mp (sr_bd_app.mp bR).1).2
  -- behind the two raises
  have fin : ∀ (f1y f2y f3y f4y f5y : Int32) (a1y a2y a3y a4y a5y a6y a7y a8y a9y a10y a11y a12y a13y a14y a15y : Nat → Int32) (g1y g2y g3y g4y g5y : Int32) (b1y b2y b3y b4y b5y b6y b7y b8y b9y b10y b11y b12y b13y b14y b15y : Nat → Int32) (z : Int32), (z = nI M.length ∨ z = -1) → sr_I (f1y, f2y, f3y, f4y, f5y, a1y, a2y, a3y, a4y, a5y, a6y, a7y, a8y, a9y, a10y, a11y, a12y, a13y, a14y, a15y) R C → sr_I (g1y, g2y, g3y, g4y, g5y, b1y, b2y, b3y, b4y, b5y, b6y, b7y, b8y, b9y, b10y, b11y, b12y, b13y, b14y, b15y) (A ++ M ++ B) C → wL_law_309 post L xs (nI R.length) (nI A.length) (nI (A.length + M.length)) (nI M1.length) z z kc ks f1y f2y f3y f4y f5y a1y a2y a3y a4y a5y a6y a7y a8y a9y a10y a11y a12y a13y a14y a15y g1y g2y g3y g4y g5y b1y b2y b3y b4y b5y b6y b7y b8y b9y b10y b11y b12y b13y b14y b15y := by
    intro f1y f2y f3y f4y f5y a1y a2y a3y a4y a5y a6y a7y a8y a9y a10y a11y a12y a13y a14y a15y g1y g2y g3y g4y g5y b1y b2y b3y b4y b5y b6y b7y b8y b9y b10y b11y b12y b13y b14y b15y z hz q1 q2
    have go : wL_law_333 post L xs (nI R.length) (nI A.length) (nI (A.length + M.length)) (nI M1.length) kc ks f1y f2y f3y f4y f5y a1y a2y a3y a4y a5y a6y a7y a8y a9y a10y a11y a12y a13y a14y a15y g1y g2y g3y g4y g5y b1y b2y b3y b4y b5y b6y b7y b8y b9y b10y b11y b12y b13y b14y b15y := by
      rw [hR] at q1 ⊢
      rw [hM3] at q1 q2 ⊢
      exact sr_l333 hp q1 q2
    unfold wL_law_309
    refine br_t rfl ?_
    rcases hz with hz | hz
    · rw [hz, sub]
      exact br_f (nI_pos (by omega)) (br_t rfl go)
    · rw [hz]
      exact br_t (by decide) go
  unfold wL_law_120
  refine ⟨ne1, nm_r e5 ⟨ne2, nm_r e6 ⟨ne3, nm_r e8 (nm_r e9 ?_)⟩⟩⟩
  rw [sub]
  refine sr_sum0 i1 (fun w j1 => ?_)
  obtain ⟨f1', f2', f3', f4', f5', a1', a2', a3', a4', a5', a6', a7', a8', a9', a10', a11', a12', a13', a14', a15'⟩ := w
  dsimp only
  rw [hR] at i2
  refine br_t rfl (sr_rev2 i2 rfl (fun w j2 => ?_))
  obtain ⟨g1', g2', g3', g4', g5', b1', b2', b3', b4', b5', b6', b7', b8', b9', b10', b11', b12', b13', b14', b15'⟩ := w
  dsimp only
  refine br_t rfl (sr_rev2 j2 List.length_reverse (fun w j3 => ?_))
  obtain ⟨g1q, g2q, g3q, g4q, g5q, b1q, b2q, b3q, b4q, b5q, b6q, b7q, b8q, b9q, b10q, b11q, b12q, b13q, b14q, b15q⟩ := w
  dsimp only
  rw [List.reverse_reverse, ← hR] at j3
  refine br_t rfl (sr_equal j1 j3 (fun f1w f2w f3w f4w f5w a1w a2w a3w a4w a5w a6w a7w a8w a9w a10w a11w a12w a13w a14w a15w g1w g2w g3w g4w g5w b1w b2w b3w b4w b5w b6w b7w b8w b9w b10w b11w b12w b13w b14w b15w k1 k2 => ?_))
  dsimp only
  rw [hR] at k2
  refine br_f (by decide) (sr_neg2 k2 rfl (fun w j4 => ?_))
  obtain ⟨g1z, g2z, g3z, g4z, g5z, b1z, b2z, b3z, b4z, b5z, b6z, b7z, b8z, b9z, b10z, b11z, b12z, b13z, b14z, b15z⟩ := w
  dsimp only
  refine br_t rfl (sr_neg2 j4 (List.length_map _) (fun w j5 => ?_))
  obtain ⟨g1r, g2r, g3r, g4r, g5r, b1r, b2r, b3r, b4r, b5r, b6r, b7r, b8r, b9r, b10r, b11r, b12r, b13r, b14r, b15r⟩ := w
  dsimp only
  rw [sr_nn, ← hR] at j5
  refine br_t rfl (sr_equal k1 j5 (fun f1s f2s f3s f4s f5s a1s a2s a3s a4s a5s a6s a7s a8s a9s a10s a11s a12s a13s a14s a15s g1s g2s g3s g4s g5s b1s b2s b3s b4s b5s b6s b7s b8s b9s b10s b11s b12s b13s b14s b15s m1 m2 => ?_))
  dsimp only
  rw [hR] at m2
  refine br_f (by decide) (sr_rai2 m2 rfl bd (fun hf w j6 => ?_) (fun hf w j6 => ?_))
  · obtain ⟨g1t, g2t, g3t, g4t, g5t, b1t, b2t, b3t, b4t, b5t, b6t, b7t, b8t, b9t, b10t, b11t, b12t, b13t, b14t, b15t⟩ := w
    dsimp only
    refine br_t (nI_pos' (by omega)) (sr_rai2 j6 (List.length_map _) bdn (fun _ w j7 => ?_) (fun hn => absurd (sr_fit2 bM bd) hn))
    obtain ⟨g1u, g2u, g3u, g4u, g5u, b1u, b2u, b3u, b4u, b5u, b6u, b7u, b8u, b9u, b10u, b11u, b12u, b13u, b14u, b15u⟩ := w
    dsimp only
    rw [sr_pm] at j7
    exact fin _ _ _ _ _ _ _ _ _ _ _ _ _ _ _ _ _ _ _ _ _ _ _ _ _ _ _ _ _ _ _ _ _ _ _ _ _ _ _ _ (nI M.length) (Or.inl rfl) m1 j7
  · obtain ⟨g1t, g2t, g3t, g4t, g5t, b1t, b2t, b3t, b4t, b5t, b6t, b7t, b8t, b9t, b10t, b11t, b12t, b13t, b14t, b15t⟩ := w
    dsimp only
    exact br_f (by decide) (fin _ _ _ _ _ _ _ _ _ _ _ _ _ _ _ _ _ _ _ _ _ _ _ _ _ _ _ _ _ _ _ _ _ _ _ _ _ _ _ _ (-1) (Or.inr rfl) m1 j6)
theorem sr_l89 {post : Int32 → Prop} {L kc ks : Nat} {xs : Nat → Int32} {R C : List Int32} {x3 : Int32} (hp : post 1) :
    ∀ (fu n : Nat) (f1 f2 f3 f4 f5 : Int32) (a1 a2 a3 a4 a5 a6 a7 a8 a9 a10 a11 a12 a13 a14 a15 : Nat → Int32) (g1 g2 g3 g4 g5 : Int32) (b1 b2 b3 b4 b5 b6 b7 b8 b9 b10 b11 b12 b13 b14 b15 : Nat → Int32), R.length < fu + n → n ≤ R.length → sr_I (f1, f2, f3, f4, f5, a1, a2, a3, a4, a5, a6, a7, a8, a9, a10, a11, a12, a13, a14, a15) R C → sr_I (g1, g2, g3, g4, g5, b1, b2, b3, b4, b5, b6, b7, b8, b9, b10, b11, b12, b13, b14, b15) R C → wL_law_89 post L xs x3 (nI R.length) kc ks fu (sr_sum (R.take n)) (nI n) f1 f2 f3 f4 f5 a1 a2 a3 a4 a5 a6 a7 a8 a9 a10 a11 a12 a13 a14 a15 g1 g2 g3 g4 g5 b1 b2 b3 b4 b5 b6 b7 b8 b9 b10 b11 b12 b13 b14 b15 := by
  intro fu
  induction fu with
  | zero => intro n f1 f2 f3 f4 f5 a1 a2 a3 a4 a5 a6 a7 a8 a9 a10 a11 a12 a13 a14 a15 g1 g2 g3 g4 g5 b1 b2 b3 b4 b5 b6 b7 b8 b9 b10 b11 b12 b13 b14 b15 h1 h2; omega
  | succ w ih =>
    intro n f1 f2 f3 f4 f5 a1 a2 a3 a4 a5 a6 a7 a8 a9 a10 a11 a12 a13 a14 a15 g1 g2 g3 g4 g5 b1 b2 b3 b4 b5 b6 b7 b8 b9 b10 b11 b12 b13 b14 b15 hf hn i1 i2
    have l48 := sr_I_48 i1
    rw [wL_law_89]
    by_cases h : n = R.length
    · have go : wL_law_120 post L xs x3 (nI R.length) (sr_sum (R.take n)) kc ks f1 f2 f3 f4 f5 a1 a2 a3 a4 a5 a6 a7 a8 a9 a10 a11 a12 a13 a14 a15 g1 g2 g3 g4 g5 b1 b2 b3 b4 b5 b6 b7 b8 b9 b10 b11 b12 b13 b14 b15 := by
        rw [h, List.take_length]
        exact sr_l120 hp i1 i2
      exact br_c (fun _ => go) (fun _ => br_t (by rw [h]; exact sr_ler _) go)
    · refine br_f (nI_ge (b := 48) (by omega) (by decide)) (br_f (nI_ge (by omega) (by omega)) (sr_getI i1 (by omega) (fun u' j1 => ?_)))
      obtain ⟨f1', f2', f3', f4', f5', a1', a2', a3', a4', a5', a6', a7', a8', a9', a10', a11', a12', a13', a14', a15'⟩ := u'
      dsimp only
      refine nm_r (e' := sr_sum (R.take (n + 1))) ?_ (nm_r (nI_1 n) (ih (n + 1) _ _ _ _ _ _ _ _ _ _ _ _ _ _ _ _ _ _ _ _ _ _ _ _ _ _ _ _ _ _ _ _ _ _ _ _ _ _ _ _ (by omega) (by omega) j1 i2))
      rw [← sr_tkn R n (by omega), sr_sum_app]
      show _ = _ + (R.getD n 0 + 0)
      rw [Int32.add_zero]
theorem sr_l32 {post : Int32 → Prop} {L kc ks : Nat} {xs : Nat → Int32} {x3 : Int32} (hL : L ≤ 260) (hp : post 1) :
    ∀ (fu n : Nat) (R C : List Int32) (f1 f2 f3 f4 f5 : Int32) (a1 a2 a3 a4 a5 a6 a7 a8 a9 a10 a11 a12 a13 a14 a15 : Nat → Int32) (g1 g2 g3 g4 g5 : Int32) (b1 b2 b3 b4 b5 b6 b7 b8 b9 b10 b11 b12 b13 b14 b15 : Nat → Int32), L + 2 < fu + n → n ≤ L + 2 → sr_I (f1, f2, f3, f4, f5, a1, a2, a3, a4, a5, a6, a7, a8, a9, a10, a11, a12, a13, a14, a15) R C → sr_I (g1, g2, g3, g4, g5, b1, b2, b3, b4, b5, b6, b7, b8, b9, b10, b11, b12, b13, b14, b15) R C → wL_law_32 post L xs x3 kc ks fu (nI n) f1 f2 f3 f4 f5 a1 a2 a3 a4 a5 a6 a7 a8 a9 a10 a11 a12 a13 a14 a15 g1 g2 g3 g4 g5 b1 b2 b3 b4 b5 b6 b7 b8 b9 b10 b11 b12 b13 b14 b15 := by
  intro fu
  induction fu with
  | zero => intro n R C f1 f2 f3 f4 f5 a1 a2 a3 a4 a5 a6 a7 a8 a9 a10 a11 a12 a13 a14 a15 g1 g2 g3 g4 g5 b1 b2 b3 b4 b5 b6 b7 b8 b9 b10 b11 b12 b13 b14 b15 hf hn; omega
  | succ w ih =>
    intro n R C f1 f2 f3 f4 f5 a1 a2 a3 a4 a5 a6 a7 a8 a9 a10 a11 a12 a13 a14 a15 g1 g2 g3 g4 g5 b1 b2 b3 b4 b5 b6 b7 b8 b9 b10 b11 b12 b13 b14 b15 hf hn i1 i2
    have l48 := sr_I_48 i1
    rw [wL_law_32]
    refine pk_le L (n + 1) (fun g => sr_szI i1 ?_) (fun g => ?_) rfl (nI_1 n)
    · exact ⟨49, sr_l89 hp 49 0 _ _ _ _ _ _ _ _ _ _ _ _ _ _ _ _ _ _ _ _ _ _ _ _ _ _ _ _ _ _ _ _ _ _ _ _ _ _ _ _ (by omega) (by omega) i1 i2⟩
    · have v1 : vp_in (nI n) L := pk_in n L (by omega)
      have v2 : vp_in (nI n + 1) L := pk_in (n + 1) L g (nI_1 n)
      obtain ⟨R', C', ht⟩ := sr_turn R C (xs (nI n).toNatClampNeg) (xs (nI n + 1).toNatClampNeg) (by omega)
      refine ⟨v1, v2, ht _ i1 _ (fun r u' j1 => ?_)⟩
      obtain ⟨f1', f2', f3', f4', f5', a1', a2', a3', a4', a5', a6', a7', a8', a9', a10', a11', a12', a13', a14', a15'⟩ := u'
      dsimp only
      refine ⟨v1, v2, ht _ i2 _ (fun r u' j2 => ?_)⟩
      obtain ⟨g1', g2', g3', g4', g5', b1', b2', b3', b4', b5', b6', b7', b8', b9', b10', b11', b12', b13', b14', b15'⟩ := u'
      dsimp only
      exact nm_r (nI_add n 2) (ih (n + 2) R' C' _ _ _ _ _ _ _ _ _ _ _ _ _ _ _ _ _ _ _ _ _ _ _ _ _ _ _ _ _ _ _ _ _ _ _ _ _ _ _ _ (by omega) (by omega) j1 j2)
theorem sr_init {post : St1 → Prop} (H : ∀ u, sr_I u [] [] → post u) : wpX_init post 15 734 (0, 0, 0, 0, 0) := by
  unfold wpX_init
  dsimp only
  refine ⟨by decide, by decide, by decide, by decide, by decide, by decide, by decide, by decide, by decide, by decide, by decide, by decide, by decide, by decide, by decide, by decide, by decide, by decide, by decide, by decide, by decide, by decide, by decide, by decide, by decide, by decide, by decide, by decide, by decide, by decide, nm_e (nm_e (H _ ?_))⟩
  refine ⟨sr_lef, sr_lef, ⟨nI_0.symm, ⟨rfl, rfl, (show upd (fun _ => 0) 0 (-2000000) 0 = -2000000 from pk_us), (show upd (fun _ => 0) 0 2000000 0 = 2000000 from pk_us)⟩, trivial, trivial, List.nodup_nil, fun k _ _ => ⟨fun _ => List.not_mem_nil, fun _ => rfl⟩⟩, nI_0.symm, rfl, rfl⟩
theorem i_vc (xs : Nat → Int32) (L : Nat) (hL : L ≤ 260) : wpL_law (fun r => r = 1) L xs := by
  unfold wpL_law
  refine ⟨15, 734, by decide, by decide, sr_init (fun u i1 => ?_)⟩
  obtain ⟨f1, f2, f3, f4, f5, a1, a2, a3, a4, a5, a6, a7, a8, a9, a10, a11, a12, a13, a14, a15⟩ := u
  dsimp only
  refine ⟨by decide, by decide, 15, 734, by decide, by decide, sr_init (fun u i2 => ?_)⟩
  obtain ⟨g1, g2, g3, g4, g5, b1, b2, b3, b4, b5, b6, b7, b8, b9, b10, b11, b12, b13, b14, b15⟩ := u
  dsimp only
  refine pk_le L 0 (fun g => ⟨L + 3, sr_l32 (post := fun r => r = 1) hL rfl (L + 3) 1 [] [] _ _ _ _ _ _ _ _ _ _ _ _ _ _ _ _ _ _ _ _ _ _ _ _ _ _ _ _ _ _ _ _ _ _ _ _ _ _ _ _ (by omega) (by omega) i1 i2⟩) (fun g => ⟨pk_in 0 L g, nm_e ⟨L + 3, sr_l32 (post := fun r => r = 1) hL rfl (L + 3) 1 [] [] _ _ _ _ _ _ _ _ _ _ _ _ _ _ _ _ _ _ _ _ _ _ _ _ _ _ _ _ _ _ _ _ _ _ _ _ _ _ _ _ (by omega) (by omega) i1 i2⟩⟩)
end
