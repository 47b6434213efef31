section
/-- an array by its first cells; behind them zeros -/
def ux_l : List Int32 → Nat → Int32
  | [], _ => 0
  | a :: _, 0 => a
  | _ :: l, j + 1 => ux_l l j
def ux_set : List Int32 → Nat → Int32 → List Int32
  | [], 0, v => [v]
  | [], k + 1, v => 0 :: ux_set [] k v
  | _ :: l, 0, v => v :: l
  | a :: l, k + 1, v => a :: ux_set l k v
theorem ux_nil (j : Nat) : ux_l [] j = 0 := by
  cases j <;> rfl
theorem ux_get (k : Nat) (v : Int32) : ∀ (l : List Int32) (j : Nat), ux_l (ux_set l k v) j = if j = k then v else ux_l l j := by
  induction k with
  | zero =>
    intro l j
    cases l with
    | nil =>
      cases j with
      | zero => rfl
      | succ j => rw [if_neg (by omega)]; show ux_l [] j = ux_l [] (j + 1); rw [ux_nil, ux_nil]
    | cons a l =>
      cases j with
      | zero => rfl
      | succ j => rw [if_neg (by omega)]; rfl
  | succ k ih =>
    intro l j
    cases l with
    | nil =>
      cases j with
      | zero => rw [if_neg (by omega)]; rfl
      | succ j =>
        show ux_l (ux_set [] k v) j = _
        rw [ih, ux_nil, ux_nil]
        by_cases h : j = k
        · rw [if_pos h, if_pos (by omega)]
        · rw [if_neg h, if_neg (by omega)]
    | cons a l =>
      cases j with
      | zero => rw [if_neg (by omega)]; rfl
      | succ j =>
        show ux_l (ux_set l k v) j = _
        rw [ih]
        show _ = if j + 1 = k + 1 then v else ux_l l j
        by_cases h : j = k
        · rw [if_pos h, if_pos (by omega)]
        · rw [if_neg h, if_neg (by omega)]
theorem ux_up {l l' : List Int32} {k k' : Nat} {v v' : Int32} (hk : k = k') (hv : v = v') (h : ux_set l k' v' = l') : upd (ux_l l) k v = ux_l l' := by
  subst hk hv h
  funext j
  rw [ux_get]
  rfl
theorem ux_up0 {l' : List Int32} {k k' : Nat} {v v' : Int32} (hk : k = k') (hv : v = v') (h : ux_set [] k' v' = l') : upd (fun _ => 0) k v = ux_l l' := by
  subst hk hv h
  funext j
  rw [ux_get, ux_nil]
  rfl
theorem ux_15 {x : Int32} (h : ¬ 14 < x) : ¬ 15 ≤ x := by
  intro z
  apply h
  rw [Int32.le_iff_toInt_le] at z
  rw [Int32.lt_iff_toInt_lt]
  have e : (15 : Int32).toInt = 15 := by decide
  have e' : (14 : Int32).toInt = 14 := by decide
  omega
theorem ux_b15 {x : Int32} (h : 14 < x) : 15 ≤ x := by
  rw [Int32.lt_iff_toInt_lt] at h
  rw [Int32.le_iff_toInt_le]
  have e : (15 : Int32).toInt = 15 := by decide
  have e' : (14 : Int32).toInt = 14 := by decide
  omega
theorem ux_b0 {x : Int32} (h : 14 < x) : ¬ x < 0 := by
  intro z
  rw [Int32.lt_iff_toInt_lt] at h z
  have e : (0 : Int32).toInt = 0 := by decide
  have e' : (14 : Int32).toInt = 14 := by decide
  omega
theorem ux_b3 {x : Int32} (h : 14 < x) : ¬ x = 3 := by
  intro z
  rw [z] at h
  exact absurd h (by decide)
theorem ux_b33 {x : Int32} (h : 14 < x) : ¬ x ≤ 3 := by
  intro z
  rw [Int32.lt_iff_toInt_lt] at h
  rw [Int32.le_iff_toInt_le] at z
  have e : (3 : Int32).toInt = 3 := by decide
  have e' : (14 : Int32).toInt = 14 := by decide
  omega
theorem ux_n3 {x : Int32} (h : x < 0) : ¬ x = 3 := by
  intro z
  rw [z] at h
  exact absurd h (by decide)
end
section
theorem ux_init_1 {post : St2 → Prop} (hp : post (0, 0, 1, (-1), (-1), 0, 0, (fun _ => 0), (ux_l [(-1), (-1), (-1)]), (fun _ => 0), (fun _ => 0), (ux_l [2]), (fun _ => 0), (fun _ => 0), (fun _ => 0), (fun _ => 0), (fun _ => 0), (fun _ => 0), (fun _ => 0), (fun _ => 0), (fun _ => 0), (fun _ => 0), (fun _ => 0), (fun _ => 0), (fun _ => 0), (fun _ => 0), (fun _ => 0), (fun _ => 0), (fun _ => 0), (ux_l [(-1), (-1), (-1), (-1), (-1)]), (fun _ => 0), (fun _ => 0), (fun _ => 0), (fun _ => 0), (fun _ => 0), (fun _ => 0), (fun _ => 0), (fun _ => 0))) : wpX_init post 31 680 (0, 0, 0, 0, 0, 0, 0) := by
  refine And.intro (by decide +kernel) ?_
  refine And.intro (by decide +kernel) ?_
  refine And.intro (by decide +kernel) ?_
  refine And.intro (by decide +kernel) ?_
  refine And.intro (by decide +kernel) ?_
  refine And.intro (by decide +kernel) ?_
  refine And.intro (by decide +kernel) ?_
  refine And.intro (by decide +kernel) ?_
  refine And.intro (by decide +kernel) ?_
  refine And.intro (by decide +kernel) ?_
  refine And.intro (by decide +kernel) ?_
  refine And.intro (by decide +kernel) ?_
  refine And.intro (by decide +kernel) ?_
  refine And.intro (by decide +kernel) ?_
  refine And.intro (by decide +kernel) ?_
  refine And.intro (by decide +kernel) ?_
  refine And.intro (by decide +kernel) ?_
  refine And.intro (by decide +kernel) ?_
  refine And.intro (by decide +kernel) ?_
  refine And.intro (by decide +kernel) ?_
  refine And.intro (by decide +kernel) ?_
  refine And.intro (by decide +kernel) ?_
  refine And.intro (by decide +kernel) ?_
  refine And.intro (by decide +kernel) ?_
  refine And.intro (by decide +kernel) ?_
  refine And.intro (by decide +kernel) ?_
  refine And.intro (by decide +kernel) ?_
  refine And.intro (by decide +kernel) ?_
  refine And.intro (by decide +kernel) ?_
  refine And.intro (by decide +kernel) ?_
  refine And.intro (by decide +kernel) ?_
  refine And.intro (by decide +kernel) ?_
  refine And.intro (by decide +kernel) ?_
  refine And.intro (by decide +kernel) ?_
  refine And.intro (by decide +kernel) ?_
  refine And.intro (by decide +kernel) ?_
  refine And.intro (by decide +kernel) ?_
  refine And.intro (by decide +kernel) ?_
  refine And.intro (by decide +kernel) ?_
  refine And.intro (by decide +kernel) ?_
  refine And.intro (by decide +kernel) ?_
  refine And.intro (by decide +kernel) ?_
  refine And.intro (by decide +kernel) ?_
  refine And.intro (by decide +kernel) ?_
  refine And.intro (by decide +kernel) ?_
  refine And.intro (by decide +kernel) ?_
  refine And.intro (by decide +kernel) ?_
  refine And.intro (by decide +kernel) ?_
  refine And.intro (by decide +kernel) ?_
  refine And.intro (by decide +kernel) ?_
  refine And.intro (by decide +kernel) ?_
  refine And.intro (by decide +kernel) ?_
  refine And.intro (by decide +kernel) ?_
  refine And.intro (by decide +kernel) ?_
  refine And.intro (by decide +kernel) ?_
  refine And.intro (by decide +kernel) ?_
  refine And.intro (by decide +kernel) ?_
  refine And.intro (by decide +kernel) ?_
  refine And.intro (by decide +kernel) ?_
  refine And.intro (by decide +kernel) ?_
  refine And.intro (by decide +kernel) ?_
  refine And.intro (by decide +kernel) ?_
  refine nm_r (ux_up0 (l' := [2]) (k' := 0) (v' := 2) (by decide +kernel) (by decide +kernel) rfl) ?_
  refine Exists.intro 24 ?_
  refine br_f (by decide +kernel) ?_
  refine And.intro (vp_in_iff.mpr (by decide +kernel)) ?_
  refine nm_r (ux_up0 (l' := [(-1)]) (k' := 0) (v' := (-1)) (by decide +kernel) (by decide +kernel) rfl) ?_
  refine nm_r (e' := 1) (by decide +kernel) ?_
  refine br_f (by decide +kernel) ?_
  refine And.intro (vp_in_iff.mpr (by decide +kernel)) ?_
  refine nm_r (ux_up (l' := [(-1), (-1)]) (k' := 1) (v' := (-1)) (by decide +kernel) (by decide +kernel) rfl) ?_
  refine nm_r (e' := 2) (by decide +kernel) ?_
  refine br_f (by decide +kernel) ?_
  refine And.intro (vp_in_iff.mpr (by decide +kernel)) ?_
  refine nm_r (ux_up (l' := [(-1), (-1), (-1)]) (k' := 2) (v' := (-1)) (by decide +kernel) (by decide +kernel) rfl) ?_
  refine nm_r (e' := 3) (by decide +kernel) ?_
  refine br_t (by decide +kernel) ?_
  refine Exists.intro 24 ?_
  refine br_f (by decide +kernel) ?_
  refine And.intro (vp_in_iff.mpr (by decide +kernel)) ?_
  refine nm_r (ux_up0 (l' := [(-1)]) (k' := 0) (v' := (-1)) (by decide +kernel) (by decide +kernel) rfl) ?_
  refine nm_r (e' := 1) (by decide +kernel) ?_
  refine br_f (by decide +kernel) ?_
  refine And.intro (vp_in_iff.mpr (by decide +kernel)) ?_
  refine nm_r (ux_up (l' := [(-1), (-1)]) (k' := 1) (v' := (-1)) (by decide +kernel) (by decide +kernel) rfl) ?_
  refine nm_r (e' := 2) (by decide +kernel) ?_
  refine br_f (by decide +kernel) ?_
  refine And.intro (vp_in_iff.mpr (by decide +kernel)) ?_
  refine nm_r (ux_up (l' := [(-1), (-1), (-1)]) (k' := 2) (v' := (-1)) (by decide +kernel) (by decide +kernel) rfl) ?_
  refine nm_r (e' := 3) (by decide +kernel) ?_
  refine br_f (by decide +kernel) ?_
  refine And.intro (vp_in_iff.mpr (by decide +kernel)) ?_
  refine nm_r (ux_up (l' := [(-1), (-1), (-1), (-1)]) (k' := 3) (v' := (-1)) (by decide +kernel) (by decide +kernel) rfl) ?_
  refine nm_r (e' := 4) (by decide +kernel) ?_
  refine br_f (by decide +kernel) ?_
  refine And.intro (vp_in_iff.mpr (by decide +kernel)) ?_
  refine nm_r (ux_up (l' := [(-1), (-1), (-1), (-1), (-1)]) (k' := 4) (v' := (-1)) (by decide +kernel) (by decide +kernel) rfl) ?_
  refine nm_r (e' := 5) (by decide +kernel) ?_
  refine br_t (by decide +kernel) ?_
  exact hp
theorem ux_enterNew_1 {post : Int32 → St2 → Prop} {p0 : Int32} {p1 : Int32} {p2 : Int32} (h_p0 : p0 = 0) (h_p1 : p1 = 3) (h_p2 : p2 = 1) (hp : post 1 (0, 0, 1, (-1), (-1), 0, 0, (fun _ => 0), (ux_l [(-1), (-1), (-1)]), (fun _ => 0), (fun _ => 0), (ux_l [2, 1]), (ux_l [1, 0]), (fun _ => 0), (ux_l [0, 1]), (ux_l [0, 0]), (ux_l [3]), (ux_l [1]), (ux_l [0, 0]), (fun _ => 0), (fun _ => 0), (fun _ => 0), (fun _ => 0), (fun _ => 0), (fun _ => 0), (fun _ => 0), (fun _ => 0), (fun _ => 0), (fun _ => 0), (ux_l [(-1), (-1), (-1), (-1), (-1)]), (fun _ => 0), (fun _ => 0), (fun _ => 0), (fun _ => 0), (fun _ => 0), (fun _ => 0), (fun _ => 0), (fun _ => 0))) : wpX_enterNew post (0, 0, 1, (-1), (-1), 0, 0, (fun _ => 0), (ux_l [(-1), (-1), (-1)]), (fun _ => 0), (fun _ => 0), (ux_l [2]), (fun _ => 0), (fun _ => 0), (fun _ => 0), (fun _ => 0), (fun _ => 0), (fun _ => 0), (fun _ => 0), (fun _ => 0), (fun _ => 0), (fun _ => 0), (fun _ => 0), (fun _ => 0), (fun _ => 0), (fun _ => 0), (fun _ => 0), (fun _ => 0), (fun _ => 0), (ux_l [(-1), (-1), (-1), (-1), (-1)]), (fun _ => 0), (fun _ => 0), (fun _ => 0), (fun _ => 0), (fun _ => 0), (fun _ => 0), (fun _ => 0), (fun _ => 0)) p0 p1 p2 := by
  subst h_p0
  subst h_p1
  subst h_p2
  refine Exists.intro 24 ?_
  refine br_f (by decide +kernel) ?_
  refine And.intro (vp_in_iff.mpr (by decide +kernel)) ?_
  refine br_t (by decide +kernel) ?_
  refine br_f (by decide +kernel) ?_
  refine br_f (by decide +kernel) ?_
  refine br_f (by decide +kernel) ?_
  refine br_f (by decide +kernel) ?_
  refine And.intro (vp_in_iff.mpr (by decide +kernel)) ?_
  refine br_t (by decide +kernel) ?_
  refine And.intro (vp_in_iff.mpr (by decide +kernel)) ?_
  refine nm_r (ux_up (l' := [2, 1]) (k' := 1) (v' := 1) (by decide +kernel) (by decide +kernel) rfl) ?_
  refine And.intro (vp_in_iff.mpr (by decide +kernel)) ?_
  refine nm_r (ux_up0 (l' := [0, 0]) (k' := 1) (v' := 0) (by decide +kernel) (by decide +kernel) rfl) ?_
  refine And.intro (vp_in_iff.mpr (by decide +kernel)) ?_
  refine nm_r (ux_up0 (l' := [0, 0]) (k' := 1) (v' := 0) (by decide +kernel) (by decide +kernel) rfl) ?_
  refine And.intro (vp_in_iff.mpr (by decide +kernel)) ?_
  refine nm_r (ux_up0 (l' := [0, 0]) (k' := 1) (v' := 0) (by decide +kernel) (by decide +kernel) rfl) ?_
  refine And.intro (vp_in_iff.mpr (by decide +kernel)) ?_
  refine nm_r (ux_up0 (l' := [0, 0]) (k' := 1) (v' := 0) (by decide +kernel) (by decide +kernel) rfl) ?_
  refine And.intro (vp_in_iff.mpr (by decide +kernel)) ?_
  refine nm_r (e' := 0) (by decide +kernel) ?_
  refine And.intro (vp_in_iff.mpr (by decide +kernel)) ?_
  refine nm_r (ux_up0 (l' := [3]) (k' := 0) (v' := 3) (by decide +kernel) (by decide +kernel) rfl) ?_
  refine And.intro (vp_in_iff.mpr (by decide +kernel)) ?_
  refine nm_r (ux_up0 (l' := [1]) (k' := 0) (v' := 1) (by decide +kernel) (by decide +kernel) rfl) ?_
  refine And.intro (vp_in_iff.mpr (by decide +kernel)) ?_
  refine And.intro (vp_in_iff.mpr (by decide +kernel)) ?_
  refine nm_r (ux_up (l' := [1, 0]) (k' := 0) (v' := 1) (by decide +kernel) (by decide +kernel) rfl) ?_
  refine And.intro (vp_in_iff.mpr (by decide +kernel)) ?_
  refine And.intro (vp_in_iff.mpr (by decide +kernel)) ?_
  refine nm_r (ux_up (l' := [0, 1]) (k' := 1) (v' := 1) (by decide +kernel) (by decide +kernel) rfl) ?_
  exact ek_v (P := fun r => post r (0, 0, 1, (-1), (-1), 0, 0, (fun _ => 0), (ux_l [(-1), (-1), (-1)]), (fun _ => 0), (fun _ => 0), (ux_l [2, 1]), (ux_l [1, 0]), (fun _ => 0), (ux_l [0, 1]), (ux_l [0, 0]), (ux_l [3]), (ux_l [1]), (ux_l [0, 0]), (fun _ => 0), (fun _ => 0), (fun _ => 0), (fun _ => 0), (fun _ => 0), (fun _ => 0), (fun _ => 0), (fun _ => 0), (fun _ => 0), (fun _ => 0), (ux_l [(-1), (-1), (-1), (-1), (-1)]), (fun _ => 0), (fun _ => 0), (fun _ => 0), (fun _ => 0), (fun _ => 0), (fun _ => 0), (fun _ => 0), (fun _ => 0))) (by decide +kernel) hp
theorem ux_newBlock_1 {post : Int32 → St2 → Prop} (hp : post 0 (1, 0, 1, (-1), (-1), 0, 0, (ux_l [0, 0, 0, 0]), (ux_l [(-1), (-1), (-1)]), (fun _ => 0), (fun _ => 0), (ux_l [2, 1]), (ux_l [1, 0]), (fun _ => 0), (ux_l [0, 1]), (ux_l [0, 0]), (ux_l [3]), (ux_l [1]), (ux_l [0, 0]), (fun _ => 0), (fun _ => 0), (fun _ => 0), (fun _ => 0), (fun _ => 0), (fun _ => 0), (fun _ => 0), (fun _ => 0), (fun _ => 0), (fun _ => 0), (ux_l [(-1), (-1), (-1), (-1), (-1)]), (fun _ => 0), (fun _ => 0), (fun _ => 0), (fun _ => 0), (fun _ => 0), (fun _ => 0), (fun _ => 0), (fun _ => 0))) : wpX_newBlock post (0, 0, 1, (-1), (-1), 0, 0, (fun _ => 0), (ux_l [(-1), (-1), (-1)]), (fun _ => 0), (fun _ => 0), (ux_l [2, 1]), (ux_l [1, 0]), (fun _ => 0), (ux_l [0, 1]), (ux_l [0, 0]), (ux_l [3]), (ux_l [1]), (ux_l [0, 0]), (fun _ => 0), (fun _ => 0), (fun _ => 0), (fun _ => 0), (fun _ => 0), (fun _ => 0), (fun _ => 0), (fun _ => 0), (fun _ => 0), (fun _ => 0), (ux_l [(-1), (-1), (-1), (-1), (-1)]), (fun _ => 0), (fun _ => 0), (fun _ => 0), (fun _ => 0), (fun _ => 0), (fun _ => 0), (fun _ => 0), (fun _ => 0)) := by
  refine Exists.intro 24 ?_
  refine br_t (by decide +kernel) ?_
  refine nm_r (e' := 1) (by decide +kernel) ?_
  refine Exists.intro 24 ?_
  refine br_f (by decide +kernel) ?_
  refine And.intro (vp_in_iff.mpr (by decide +kernel)) ?_
  refine nm_r (ux_up0 (l' := [0]) (k' := 0) (v' := 0) (by decide +kernel) (by decide +kernel) rfl) ?_
  refine nm_r (e' := 1) (by decide +kernel) ?_
  refine br_f (by decide +kernel) ?_
  refine And.intro (vp_in_iff.mpr (by decide +kernel)) ?_
  refine nm_r (ux_up (l' := [0, 0]) (k' := 1) (v' := 0) (by decide +kernel) (by decide +kernel) rfl) ?_
  refine nm_r (e' := 2) (by decide +kernel) ?_
  refine br_f (by decide +kernel) ?_
  refine And.intro (vp_in_iff.mpr (by decide +kernel)) ?_
  refine nm_r (ux_up (l' := [0, 0, 0]) (k' := 2) (v' := 0) (by decide +kernel) (by decide +kernel) rfl) ?_
  refine nm_r (e' := 3) (by decide +kernel) ?_
  refine br_f (by decide +kernel) ?_
  refine And.intro (vp_in_iff.mpr (by decide +kernel)) ?_
  refine nm_r (ux_up (l' := [0, 0, 0, 0]) (k' := 3) (v' := 0) (by decide +kernel) (by decide +kernel) rfl) ?_
  refine nm_r (e' := 4) (by decide +kernel) ?_
  refine br_t (by decide +kernel) ?_
  exact ek_v (P := fun r => post r (1, 0, 1, (-1), (-1), 0, 0, (ux_l [0, 0, 0, 0]), (ux_l [(-1), (-1), (-1)]), (fun _ => 0), (fun _ => 0), (ux_l [2, 1]), (ux_l [1, 0]), (fun _ => 0), (ux_l [0, 1]), (ux_l [0, 0]), (ux_l [3]), (ux_l [1]), (ux_l [0, 0]), (fun _ => 0), (fun _ => 0), (fun _ => 0), (fun _ => 0), (fun _ => 0), (fun _ => 0), (fun _ => 0), (fun _ => 0), (fun _ => 0), (fun _ => 0), (ux_l [(-1), (-1), (-1), (-1), (-1)]), (fun _ => 0), (fun _ => 0), (fun _ => 0), (fun _ => 0), (fun _ => 0), (fun _ => 0), (fun _ => 0), (fun _ => 0))) (by decide +kernel) hp
theorem ux_writeBack_1 {post : St2 → Prop} {p0 : Int32} (h_p0 : p0 = 0) (hp : post (1, 1, 1, (-1), (-1), 0, 0, (ux_l [0, 0, 0, 0]), (ux_l [(-1), (-1), (-1)]), (ux_l [0]), (fun _ => 0), (ux_l [2, 1]), (ux_l [1, 1]), (ux_l [0, 0, 0, 0, 0, 0]), (ux_l [0, 1]), (ux_l [0, 0]), (ux_l [3]), (ux_l [1]), (ux_l [0, 0]), (fun _ => 0), (fun _ => 0), (fun _ => 0), (fun _ => 0), (fun _ => 0), (fun _ => 0), (fun _ => 0), (fun _ => 0), (fun _ => 0), (fun _ => 0), (ux_l [(-1), (-1), (-1), (-1), (-1)]), (fun _ => 0), (fun _ => 0), (fun _ => 0), (fun _ => 0), (fun _ => 0), (fun _ => 0), (fun _ => 0), (fun _ => 0))) : wpX_writeBack post (1, 1, 1, (-1), (-1), 0, 0, (ux_l [0, 0, 0, 0]), (ux_l [(-1), (-1), (-1)]), (fun _ => 0), (fun _ => 0), (ux_l [2, 1]), (ux_l [1, 1]), (ux_l [0, 0, 0, 0, 0, 0]), (ux_l [0, 1]), (ux_l [0, 0]), (ux_l [3]), (ux_l [1]), (ux_l [0, 0]), (fun _ => 0), (fun _ => 0), (fun _ => 0), (fun _ => 0), (fun _ => 0), (fun _ => 0), (fun _ => 0), (fun _ => 0), (fun _ => 0), (fun _ => 0), (ux_l [(-1), (-1), (-1), (-1), (-1)]), (fun _ => 0), (fun _ => 0), (fun _ => 0), (fun _ => 0), (fun _ => 0), (fun _ => 0), (fun _ => 0), (fun _ => 0)) p0 := by
  subst h_p0
  refine And.intro (vp_in_iff.mpr (by decide +kernel)) ?_
  refine nm_r (e' := (-1)) (by decide +kernel) ?_
  refine br_t (by decide +kernel) ?_
  refine And.intro (vp_in_iff.mpr (by decide +kernel)) ?_
  refine nm_r (ux_up (l' := [(-1), (-1), (-1)]) (k' := 0) (v' := (-1)) (by decide +kernel) (by decide +kernel) rfl) ?_
  refine And.intro (vp_in_iff.mpr (by decide +kernel)) ?_
  refine nm_r (ux_up0 (l' := [0]) (k' := 0) (v' := 0) (by decide +kernel) (by decide +kernel) rfl) ?_
  exact hp
theorem ux_slotFor_1 {post : Int32 → St2 → Prop} {p0 : Int32} (h_p0 : p0 = 0) (hp : post 0 (1, 1, 1, (-1), (-1), 0, 0, (ux_l [0, 0, 0, 0]), (ux_l [0, (-1), (-1)]), (ux_l [0]), (ux_l [0, 0, 0, 0]), (ux_l [2, 1]), (ux_l [1, 1]), (ux_l [0, 0, 0, 0, 0, 0]), (ux_l [0, 1]), (ux_l [0, 0]), (ux_l [3]), (ux_l [1]), (ux_l [0, 0]), (fun _ => 0), (fun _ => 0), (fun _ => 0), (fun _ => 0), (fun _ => 0), (fun _ => 0), (fun _ => 0), (fun _ => 0), (fun _ => 0), (fun _ => 0), (ux_l [(-1), (-1), (-1), (-1), (-1)]), (fun _ => 0), (fun _ => 0), (fun _ => 0), (fun _ => 0), (fun _ => 0), (fun _ => 0), (fun _ => 0), (fun _ => 0))) : wpX_slotFor post (1, 0, 1, (-1), (-1), 0, 0, (ux_l [0, 0, 0, 0]), (ux_l [(-1), (-1), (-1)]), (fun _ => 0), (fun _ => 0), (ux_l [2, 1]), (ux_l [1, 1]), (ux_l [0, 0, 0, 0, 0, 0]), (ux_l [0, 1]), (ux_l [0, 0]), (ux_l [3]), (ux_l [1]), (ux_l [0, 0]), (fun _ => 0), (fun _ => 0), (fun _ => 0), (fun _ => 0), (fun _ => 0), (fun _ => 0), (fun _ => 0), (fun _ => 0), (fun _ => 0), (fun _ => 0), (ux_l [(-1), (-1), (-1), (-1), (-1)]), (fun _ => 0), (fun _ => 0), (fun _ => 0), (fun _ => 0), (fun _ => 0), (fun _ => 0), (fun _ => 0), (fun _ => 0)) p0 := by
  subst h_p0
  refine Exists.intro 24 ?_
  refine br_f (by decide +kernel) ?_
  refine And.intro (vp_in_iff.mpr (by decide +kernel)) ?_
  refine br_f (by decide +kernel) ?_
  refine nm_r (e' := 1) (by decide +kernel) ?_
  refine br_f (by decide +kernel) ?_
  refine And.intro (vp_in_iff.mpr (by decide +kernel)) ?_
  refine br_f (by decide +kernel) ?_
  refine nm_r (e' := 2) (by decide +kernel) ?_
  refine br_f (by decide +kernel) ?_
  refine And.intro (vp_in_iff.mpr (by decide +kernel)) ?_
  refine br_f (by decide +kernel) ?_
  refine nm_r (e' := 3) (by decide +kernel) ?_
  refine br_t (by decide +kernel) ?_
  refine And.intro (by decide +kernel) ?_
  refine nm_r (e' := 1) (by decide +kernel) ?_
  refine ux_writeBack_1 (by decide +kernel) ?_
  refine And.intro (vp_in_iff.mpr (by decide +kernel)) ?_
  refine nm_r (ux_up (l' := [0, (-1), (-1)]) (k' := 0) (v' := 0) (by decide +kernel) (by decide +kernel) rfl) ?_
  refine Exists.intro 24 ?_
  refine br_f (by decide +kernel) ?_
  refine And.intro (vp_in_iff.mpr (by decide +kernel)) ?_
  refine And.intro (vp_in_iff.mpr (by decide +kernel)) ?_
  refine nm_r (ux_up0 (l' := [0]) (k' := 0) (v' := 0) (by decide +kernel) (by decide +kernel) rfl) ?_
  refine nm_r (e' := 1) (by decide +kernel) ?_
  refine br_f (by decide +kernel) ?_
  refine And.intro (vp_in_iff.mpr (by decide +kernel)) ?_
  refine And.intro (vp_in_iff.mpr (by decide +kernel)) ?_
  refine nm_r (ux_up (l' := [0, 0]) (k' := 1) (v' := 0) (by decide +kernel) (by decide +kernel) rfl) ?_
  refine nm_r (e' := 2) (by decide +kernel) ?_
  refine br_f (by decide +kernel) ?_
  refine And.intro (vp_in_iff.mpr (by decide +kernel)) ?_
  refine And.intro (vp_in_iff.mpr (by decide +kernel)) ?_
  refine nm_r (ux_up (l' := [0, 0, 0]) (k' := 2) (v' := 0) (by decide +kernel) (by decide +kernel) rfl) ?_
  refine nm_r (e' := 3) (by decide +kernel) ?_
  refine br_f (by decide +kernel) ?_
  refine And.intro (vp_in_iff.mpr (by decide +kernel)) ?_
  refine And.intro (vp_in_iff.mpr (by decide +kernel)) ?_
  refine nm_r (ux_up (l' := [0, 0, 0, 0]) (k' := 3) (v' := 0) (by decide +kernel) (by decide +kernel) rfl) ?_
  refine nm_r (e' := 4) (by decide +kernel) ?_
  refine br_t (by decide +kernel) ?_
  exact ek_v (P := fun r => post r (1, 1, 1, (-1), (-1), 0, 0, (ux_l [0, 0, 0, 0]), (ux_l [0, (-1), (-1)]), (ux_l [0]), (ux_l [0, 0, 0, 0]), (ux_l [2, 1]), (ux_l [1, 1]), (ux_l [0, 0, 0, 0, 0, 0]), (ux_l [0, 1]), (ux_l [0, 0]), (ux_l [3]), (ux_l [1]), (ux_l [0, 0]), (fun _ => 0), (fun _ => 0), (fun _ => 0), (fun _ => 0), (fun _ => 0), (fun _ => 0), (fun _ => 0), (fun _ => 0), (fun _ => 0), (fun _ => 0), (ux_l [(-1), (-1), (-1), (-1), (-1)]), (fun _ => 0), (fun _ => 0), (fun _ => 0), (fun _ => 0), (fun _ => 0), (fun _ => 0), (fun _ => 0), (fun _ => 0))) (by decide +kernel) hp
theorem ux_putWord_1 {post : St2 → Prop} {p0 : Int32} {p1 : Int32} {p2 : Int32} (h_p0 : p0 = 1) (h_p1 : p1 = 0) (h_p2 : p2 = 1037) (hp : post (1, 1, 1, (-1), (-1), 0, 0, (ux_l [0, 0, 0, 0]), (ux_l [0, (-1), (-1)]), (ux_l [1]), (ux_l [1037, 0, 0, 0]), (ux_l [2, 1]), (ux_l [1, 1]), (ux_l [0, 0, 0, 0, 0, 0]), (ux_l [0, 1]), (ux_l [0, 0]), (ux_l [3]), (ux_l [1]), (ux_l [0, 0]), (fun _ => 0), (fun _ => 0), (fun _ => 0), (fun _ => 0), (fun _ => 0), (fun _ => 0), (fun _ => 0), (fun _ => 0), (fun _ => 0), (fun _ => 0), (ux_l [(-1), (-1), (-1), (-1), (-1)]), (fun _ => 0), (fun _ => 0), (fun _ => 0), (fun _ => 0), (fun _ => 0), (fun _ => 0), (fun _ => 0), (fun _ => 0))) : wpX_putWord post (0, 0, 1, (-1), (-1), 0, 0, (fun _ => 0), (ux_l [(-1), (-1), (-1)]), (fun _ => 0), (fun _ => 0), (ux_l [2, 1]), (ux_l [1, 0]), (fun _ => 0), (ux_l [0, 1]), (ux_l [0, 0]), (ux_l [3]), (ux_l [1]), (ux_l [0, 0]), (fun _ => 0), (fun _ => 0), (fun _ => 0), (fun _ => 0), (fun _ => 0), (fun _ => 0), (fun _ => 0), (fun _ => 0), (fun _ => 0), (fun _ => 0), (ux_l [(-1), (-1), (-1), (-1), (-1)]), (fun _ => 0), (fun _ => 0), (fun _ => 0), (fun _ => 0), (fun _ => 0), (fun _ => 0), (fun _ => 0), (fun _ => 0)) p0 p1 p2 := by
  subst h_p0
  subst h_p1
  subst h_p2
  refine And.intro (vp_in_iff.mpr (by decide +kernel)) ?_
  refine br_t (by decide +kernel) ?_
  refine And.intro (by decide +kernel) ?_
  refine br_t (by decide +kernel) ?_
  refine And.intro (by decide +kernel) ?_
  refine ux_newBlock_1  ?_
  refine And.intro (vp_in_iff.mpr (by decide +kernel)) ?_
  refine nm_r (ux_up0 (l' := [0, 0, 0, 0, 0, 0]) (k' := 5) (v' := 0) (by decide +kernel) (by decide +kernel) rfl) ?_
  refine And.intro (vp_in_iff.mpr (by decide +kernel)) ?_
  refine And.intro (vp_in_iff.mpr (by decide +kernel)) ?_
  refine nm_r (ux_up (l' := [1, 1]) (k' := 1) (v' := 1) (by decide +kernel) (by decide +kernel) rfl) ?_
  refine And.intro (by decide +kernel) ?_
  refine And.intro (vp_in_iff.mpr (by decide +kernel)) ?_
  refine nm_r (e' := 0) (by decide +kernel) ?_
  refine br_f (by decide +kernel) ?_
  refine ux_slotFor_1 (by decide +kernel) ?_
  refine And.intro (by decide +kernel) ?_
  refine And.intro (vp_in_iff.mpr (by decide +kernel)) ?_
  refine nm_r (ux_up (l' := [1037, 0, 0, 0]) (k' := 0) (v' := 1037) (by decide +kernel) (by decide +kernel) rfl) ?_
  refine And.intro (vp_in_iff.mpr (by decide +kernel)) ?_
  refine nm_r (ux_up (l' := [1]) (k' := 0) (v' := 1) (by decide +kernel) (by decide +kernel) rfl) ?_
  exact hp
theorem ux_file_1 {post : Int32 → St2 → Prop} {p0 : Int32} {p1 : Int32} {p2 : Int32} (h_p0 : p0 = 3) (h_p1 : p1 = 0) (h_p2 : p2 = 1037) (hp : post 1 (1, 1, 1, (-1), (-1), 0, 0, (ux_l [0, 0, 0, 0]), (ux_l [0, (-1), (-1)]), (ux_l [1]), (ux_l [1037, 0, 0, 0]), (ux_l [2, 1]), (ux_l [1, 1]), (ux_l [0, 0, 0, 0, 0, 0]), (ux_l [0, 1]), (ux_l [0, 0]), (ux_l [3]), (ux_l [1]), (ux_l [0, 0]), (fun _ => 0), (fun _ => 0), (fun _ => 0), (fun _ => 0), (fun _ => 0), (fun _ => 0), (fun _ => 0), (fun _ => 0), (fun _ => 0), (fun _ => 0), (ux_l [(-1), (-1), (-1), (-1), (-1)]), (fun _ => 0), (fun _ => 0), (fun _ => 0), (fun _ => 0), (fun _ => 0), (fun _ => 0), (fun _ => 0), (fun _ => 0))) : wpX_file post (0, 0, 1, (-1), (-1), 0, 0, (fun _ => 0), (ux_l [(-1), (-1), (-1)]), (fun _ => 0), (fun _ => 0), (ux_l [2]), (fun _ => 0), (fun _ => 0), (fun _ => 0), (fun _ => 0), (fun _ => 0), (fun _ => 0), (fun _ => 0), (fun _ => 0), (fun _ => 0), (fun _ => 0), (fun _ => 0), (fun _ => 0), (fun _ => 0), (fun _ => 0), (fun _ => 0), (fun _ => 0), (fun _ => 0), (ux_l [(-1), (-1), (-1), (-1), (-1)]), (fun _ => 0), (fun _ => 0), (fun _ => 0), (fun _ => 0), (fun _ => 0), (fun _ => 0), (fun _ => 0), (fun _ => 0)) p0 p1 p2 := by
  subst h_p0
  subst h_p1
  subst h_p2
  refine br_f (by decide +kernel) ?_
  refine br_f (by decide +kernel) ?_
  refine br_f (by decide +kernel) ?_
  refine br_f (by decide +kernel) ?_
  refine br_t (by decide +kernel) ?_
  refine nm_r (e' := 0) (by decide +kernel) ?_
  refine Exists.intro 24 ?_
  refine And.intro (vp_in_iff.mpr (by decide +kernel)) ?_
  refine br_t (by decide +kernel) ?_
  refine br_f (by decide +kernel) ?_
  refine br_t (by decide +kernel) ?_
  refine br_f (by decide +kernel) ?_
  refine br_t (by decide +kernel) ?_
  refine br_f (by decide +kernel) ?_
  refine ux_enterNew_1 (by decide +kernel) (by decide +kernel) (by decide +kernel) ?_
  refine br_t (by decide +kernel) ?_
  refine ux_putWord_1 (by decide +kernel) (by decide +kernel) (by decide +kernel) ?_
  exact ek_v (P := fun r => post r (1, 1, 1, (-1), (-1), 0, 0, (ux_l [0, 0, 0, 0]), (ux_l [0, (-1), (-1)]), (ux_l [1]), (ux_l [1037, 0, 0, 0]), (ux_l [2, 1]), (ux_l [1, 1]), (ux_l [0, 0, 0, 0, 0, 0]), (ux_l [0, 1]), (ux_l [0, 0]), (ux_l [3]), (ux_l [1]), (ux_l [0, 0]), (fun _ => 0), (fun _ => 0), (fun _ => 0), (fun _ => 0), (fun _ => 0), (fun _ => 0), (fun _ => 0), (fun _ => 0), (fun _ => 0), (fun _ => 0), (ux_l [(-1), (-1), (-1), (-1), (-1)]), (fun _ => 0), (fun _ => 0), (fun _ => 0), (fun _ => 0), (fun _ => 0), (fun _ => 0), (fun _ => 0), (fun _ => 0))) (by decide +kernel) hp
theorem ux_slotFor_2 {post : Int32 → St2 → Prop} {p0 : Int32} (h_p0 : p0 = 0) (hp : post 0 (1, 1, 1, (-1), (-1), 0, 0, (ux_l [0, 0, 0, 0]), (ux_l [0, (-1), (-1)]), (ux_l [1]), (ux_l [1037, 0, 0, 0]), (ux_l [2, 1]), (ux_l [1, 2]), (ux_l [0, 0, 0, 0, 0, 0]), (ux_l [0, 1]), (ux_l [0, 0]), (ux_l [3]), (ux_l [1]), (ux_l [0, 0]), (fun _ => 0), (fun _ => 0), (fun _ => 0), (fun _ => 0), (fun _ => 0), (fun _ => 0), (fun _ => 0), (fun _ => 0), (fun _ => 0), (fun _ => 0), (ux_l [(-1), (-1), (-1), (-1), (-1)]), (fun _ => 0), (fun _ => 0), (fun _ => 0), (fun _ => 0), (fun _ => 0), (fun _ => 0), (fun _ => 0), (fun _ => 0))) : wpX_slotFor post (1, 1, 1, (-1), (-1), 0, 0, (ux_l [0, 0, 0, 0]), (ux_l [0, (-1), (-1)]), (ux_l [1]), (ux_l [1037, 0, 0, 0]), (ux_l [2, 1]), (ux_l [1, 2]), (ux_l [0, 0, 0, 0, 0, 0]), (ux_l [0, 1]), (ux_l [0, 0]), (ux_l [3]), (ux_l [1]), (ux_l [0, 0]), (fun _ => 0), (fun _ => 0), (fun _ => 0), (fun _ => 0), (fun _ => 0), (fun _ => 0), (fun _ => 0), (fun _ => 0), (fun _ => 0), (fun _ => 0), (ux_l [(-1), (-1), (-1), (-1), (-1)]), (fun _ => 0), (fun _ => 0), (fun _ => 0), (fun _ => 0), (fun _ => 0), (fun _ => 0), (fun _ => 0), (fun _ => 0)) p0 := by
  subst h_p0
  refine Exists.intro 24 ?_
  refine br_f (by decide +kernel) ?_
  refine And.intro (vp_in_iff.mpr (by decide +kernel)) ?_
  refine br_t (by decide +kernel) ?_
  exact ek_v (P := fun r => post r (1, 1, 1, (-1), (-1), 0, 0, (ux_l [0, 0, 0, 0]), (ux_l [0, (-1), (-1)]), (ux_l [1]), (ux_l [1037, 0, 0, 0]), (ux_l [2, 1]), (ux_l [1, 2]), (ux_l [0, 0, 0, 0, 0, 0]), (ux_l [0, 1]), (ux_l [0, 0]), (ux_l [3]), (ux_l [1]), (ux_l [0, 0]), (fun _ => 0), (fun _ => 0), (fun _ => 0), (fun _ => 0), (fun _ => 0), (fun _ => 0), (fun _ => 0), (fun _ => 0), (fun _ => 0), (fun _ => 0), (ux_l [(-1), (-1), (-1), (-1), (-1)]), (fun _ => 0), (fun _ => 0), (fun _ => 0), (fun _ => 0), (fun _ => 0), (fun _ => 0), (fun _ => 0), (fun _ => 0))) (by decide +kernel) hp
theorem ux_putWord_2 {post : St2 → Prop} {p0 : Int32} {p1 : Int32} {p2 : Int32} (h_p0 : p0 = 1) (h_p1 : p1 = 1) (h_p2 : p2 = 39457) (hp : post (1, 1, 1, (-1), (-1), 0, 0, (ux_l [0, 0, 0, 0]), (ux_l [0, (-1), (-1)]), (ux_l [1]), (ux_l [1037, 39457, 0, 0]), (ux_l [2, 1]), (ux_l [1, 2]), (ux_l [0, 0, 0, 0, 0, 0]), (ux_l [0, 1]), (ux_l [0, 0]), (ux_l [3]), (ux_l [1]), (ux_l [0, 0]), (fun _ => 0), (fun _ => 0), (fun _ => 0), (fun _ => 0), (fun _ => 0), (fun _ => 0), (fun _ => 0), (fun _ => 0), (fun _ => 0), (fun _ => 0), (ux_l [(-1), (-1), (-1), (-1), (-1)]), (fun _ => 0), (fun _ => 0), (fun _ => 0), (fun _ => 0), (fun _ => 0), (fun _ => 0), (fun _ => 0), (fun _ => 0))) : wpX_putWord post (1, 1, 1, (-1), (-1), 0, 0, (ux_l [0, 0, 0, 0]), (ux_l [0, (-1), (-1)]), (ux_l [1]), (ux_l [1037, 0, 0, 0]), (ux_l [2, 1]), (ux_l [1, 1]), (ux_l [0, 0, 0, 0, 0, 0]), (ux_l [0, 1]), (ux_l [0, 0]), (ux_l [3]), (ux_l [1]), (ux_l [0, 0]), (fun _ => 0), (fun _ => 0), (fun _ => 0), (fun _ => 0), (fun _ => 0), (fun _ => 0), (fun _ => 0), (fun _ => 0), (fun _ => 0), (fun _ => 0), (ux_l [(-1), (-1), (-1), (-1), (-1)]), (fun _ => 0), (fun _ => 0), (fun _ => 0), (fun _ => 0), (fun _ => 0), (fun _ => 0), (fun _ => 0), (fun _ => 0)) p0 p1 p2 := by
  subst h_p0
  subst h_p1
  subst h_p2
  refine And.intro (vp_in_iff.mpr (by decide +kernel)) ?_
  refine br_t (by decide +kernel) ?_
  refine And.intro (by decide +kernel) ?_
  refine br_f (by decide +kernel) ?_
  refine And.intro (vp_in_iff.mpr (by decide +kernel)) ?_
  refine And.intro (vp_in_iff.mpr (by decide +kernel)) ?_
  refine nm_r (ux_up (l' := [1, 2]) (k' := 1) (v' := 2) (by decide +kernel) (by decide +kernel) rfl) ?_
  refine And.intro (by decide +kernel) ?_
  refine And.intro (vp_in_iff.mpr (by decide +kernel)) ?_
  refine nm_r (e' := 0) (by decide +kernel) ?_
  refine br_f (by decide +kernel) ?_
  refine ux_slotFor_2 (by decide +kernel) ?_
  refine And.intro (by decide +kernel) ?_
  refine And.intro (vp_in_iff.mpr (by decide +kernel)) ?_
  refine nm_r (ux_up (l' := [1037, 39457, 0, 0]) (k' := 1) (v' := 39457) (by decide +kernel) (by decide +kernel) rfl) ?_
  refine And.intro (vp_in_iff.mpr (by decide +kernel)) ?_
  refine nm_r (ux_up (l' := [1]) (k' := 0) (v' := 1) (by decide +kernel) (by decide +kernel) rfl) ?_
  exact hp
theorem ux_file_2 {post : Int32 → St2 → Prop} {p0 : Int32} {p1 : Int32} {p2 : Int32} (h_p0 : p0 = 3) (h_p1 : p1 = 1) (h_p2 : p2 = 39457) (hp : post 1 (1, 1, 1, (-1), (-1), 0, 0, (ux_l [0, 0, 0, 0]), (ux_l [0, (-1), (-1)]), (ux_l [1]), (ux_l [1037, 39457, 0, 0]), (ux_l [2, 1]), (ux_l [1, 2]), (ux_l [0, 0, 0, 0, 0, 0]), (ux_l [0, 1]), (ux_l [0, 0]), (ux_l [3]), (ux_l [1]), (ux_l [0, 0]), (fun _ => 0), (fun _ => 0), (fun _ => 0), (fun _ => 0), (fun _ => 0), (fun _ => 0), (fun _ => 0), (fun _ => 0), (fun _ => 0), (fun _ => 0), (ux_l [(-1), (-1), (-1), (-1), (-1)]), (fun _ => 0), (fun _ => 0), (fun _ => 0), (fun _ => 0), (fun _ => 0), (fun _ => 0), (fun _ => 0), (fun _ => 0))) : wpX_file post (1, 1, 1, (-1), (-1), 0, 0, (ux_l [0, 0, 0, 0]), (ux_l [0, (-1), (-1)]), (ux_l [1]), (ux_l [1037, 0, 0, 0]), (ux_l [2, 1]), (ux_l [1, 1]), (ux_l [0, 0, 0, 0, 0, 0]), (ux_l [0, 1]), (ux_l [0, 0]), (ux_l [3]), (ux_l [1]), (ux_l [0, 0]), (fun _ => 0), (fun _ => 0), (fun _ => 0), (fun _ => 0), (fun _ => 0), (fun _ => 0), (fun _ => 0), (fun _ => 0), (fun _ => 0), (fun _ => 0), (ux_l [(-1), (-1), (-1), (-1), (-1)]), (fun _ => 0), (fun _ => 0), (fun _ => 0), (fun _ => 0), (fun _ => 0), (fun _ => 0), (fun _ => 0), (fun _ => 0)) p0 p1 p2 := by
  subst h_p0
  subst h_p1
  subst h_p2
  refine br_f (by decide +kernel) ?_
  refine br_f (by decide +kernel) ?_
  refine br_f (by decide +kernel) ?_
  refine br_f (by decide +kernel) ?_
  refine br_t (by decide +kernel) ?_
  refine nm_r (e' := 0) (by decide +kernel) ?_
  refine Exists.intro 24 ?_
  refine And.intro (vp_in_iff.mpr (by decide +kernel)) ?_
  refine br_f (by decide +kernel) ?_
  refine And.intro (vp_in_iff.mpr (by decide +kernel)) ?_
  refine br_t (by decide +kernel) ?_
  refine br_t (by decide +kernel) ?_
  refine And.intro (vp_in_iff.mpr (by decide +kernel)) ?_
  refine br_f (by decide +kernel) ?_
  refine And.intro (vp_in_iff.mpr (by decide +kernel)) ?_
  refine br_f (by decide +kernel) ?_
  refine br_t (by decide +kernel) ?_
  refine And.intro (vp_in_iff.mpr (by decide +kernel)) ?_
  refine br_t (by decide +kernel) ?_
  refine br_t (by decide +kernel) ?_
  refine br_t (by decide +kernel) ?_
  refine ux_putWord_2 (by decide +kernel) (by decide +kernel) (by decide +kernel) ?_
  exact ek_v (P := fun r => post r (1, 1, 1, (-1), (-1), 0, 0, (ux_l [0, 0, 0, 0]), (ux_l [0, (-1), (-1)]), (ux_l [1]), (ux_l [1037, 39457, 0, 0]), (ux_l [2, 1]), (ux_l [1, 2]), (ux_l [0, 0, 0, 0, 0, 0]), (ux_l [0, 1]), (ux_l [0, 0]), (ux_l [3]), (ux_l [1]), (ux_l [0, 0]), (fun _ => 0), (fun _ => 0), (fun _ => 0), (fun _ => 0), (fun _ => 0), (fun _ => 0), (fun _ => 0), (fun _ => 0), (fun _ => 0), (fun _ => 0), (ux_l [(-1), (-1), (-1), (-1), (-1)]), (fun _ => 0), (fun _ => 0), (fun _ => 0), (fun _ => 0), (fun _ => 0), (fun _ => 0), (fun _ => 0), (fun _ => 0))) (by decide +kernel) hp
theorem ux_slotFor_3 {post : Int32 → St2 → Prop} {p0 : Int32} (h_p0 : p0 = 0) (hp : post 0 (1, 1, 1, (-1), (-1), 0, 0, (ux_l [0, 0, 0, 0]), (ux_l [0, (-1), (-1)]), (ux_l [1]), (ux_l [1037, 39457, 0, 0]), (ux_l [2, 1]), (ux_l [1, 3]), (ux_l [0, 0, 0, 0, 0, 0]), (ux_l [0, 1]), (ux_l [0, 0]), (ux_l [3]), (ux_l [1]), (ux_l [0, 0]), (fun _ => 0), (fun _ => 0), (fun _ => 0), (fun _ => 0), (fun _ => 0), (fun _ => 0), (fun _ => 0), (fun _ => 0), (fun _ => 0), (fun _ => 0), (ux_l [(-1), (-1), (-1), (-1), (-1)]), (fun _ => 0), (fun _ => 0), (fun _ => 0), (fun _ => 0), (fun _ => 0), (fun _ => 0), (fun _ => 0), (fun _ => 0))) : wpX_slotFor post (1, 1, 1, (-1), (-1), 0, 0, (ux_l [0, 0, 0, 0]), (ux_l [0, (-1), (-1)]), (ux_l [1]), (ux_l [1037, 39457, 0, 0]), (ux_l [2, 1]), (ux_l [1, 3]), (ux_l [0, 0, 0, 0, 0, 0]), (ux_l [0, 1]), (ux_l [0, 0]), (ux_l [3]), (ux_l [1]), (ux_l [0, 0]), (fun _ => 0), (fun _ => 0), (fun _ => 0), (fun _ => 0), (fun _ => 0), (fun _ => 0), (fun _ => 0), (fun _ => 0), (fun _ => 0), (fun _ => 0), (ux_l [(-1), (-1), (-1), (-1), (-1)]), (fun _ => 0), (fun _ => 0), (fun _ => 0), (fun _ => 0), (fun _ => 0), (fun _ => 0), (fun _ => 0), (fun _ => 0)) p0 := by
  subst h_p0
  refine Exists.intro 24 ?_
  refine br_f (by decide +kernel) ?_
  refine And.intro (vp_in_iff.mpr (by decide +kernel)) ?_
  refine br_t (by decide +kernel) ?_
  exact ek_v (P := fun r => post r (1, 1, 1, (-1), (-1), 0, 0, (ux_l [0, 0, 0, 0]), (ux_l [0, (-1), (-1)]), (ux_l [1]), (ux_l [1037, 39457, 0, 0]), (ux_l [2, 1]), (ux_l [1, 3]), (ux_l [0, 0, 0, 0, 0, 0]), (ux_l [0, 1]), (ux_l [0, 0]), (ux_l [3]), (ux_l [1]), (ux_l [0, 0]), (fun _ => 0), (fun _ => 0), (fun _ => 0), (fun _ => 0), (fun _ => 0), (fun _ => 0), (fun _ => 0), (fun _ => 0), (fun _ => 0), (fun _ => 0), (ux_l [(-1), (-1), (-1), (-1), (-1)]), (fun _ => 0), (fun _ => 0), (fun _ => 0), (fun _ => 0), (fun _ => 0), (fun _ => 0), (fun _ => 0), (fun _ => 0))) (by decide +kernel) hp
theorem ux_putWord_3 {post : St2 → Prop} {p0 : Int32} {p1 : Int32} {p2 : Int32} (h_p0 : p0 = 1) (h_p1 : p1 = 2) (h_p2 : p2 = 48) (hp : post (1, 1, 1, (-1), (-1), 0, 0, (ux_l [0, 0, 0, 0]), (ux_l [0, (-1), (-1)]), (ux_l [1]), (ux_l [1037, 39457, 48, 0]), (ux_l [2, 1]), (ux_l [1, 3]), (ux_l [0, 0, 0, 0, 0, 0]), (ux_l [0, 1]), (ux_l [0, 0]), (ux_l [3]), (ux_l [1]), (ux_l [0, 0]), (fun _ => 0), (fun _ => 0), (fun _ => 0), (fun _ => 0), (fun _ => 0), (fun _ => 0), (fun _ => 0), (fun _ => 0), (fun _ => 0), (fun _ => 0), (ux_l [(-1), (-1), (-1), (-1), (-1)]), (fun _ => 0), (fun _ => 0), (fun _ => 0), (fun _ => 0), (fun _ => 0), (fun _ => 0), (fun _ => 0), (fun _ => 0))) : wpX_putWord post (1, 1, 1, (-1), (-1), 0, 0, (ux_l [0, 0, 0, 0]), (ux_l [0, (-1), (-1)]), (ux_l [1]), (ux_l [1037, 39457, 0, 0]), (ux_l [2, 1]), (ux_l [1, 2]), (ux_l [0, 0, 0, 0, 0, 0]), (ux_l [0, 1]), (ux_l [0, 0]), (ux_l [3]), (ux_l [1]), (ux_l [0, 0]), (fun _ => 0), (fun _ => 0), (fun _ => 0), (fun _ => 0), (fun _ => 0), (fun _ => 0), (fun _ => 0), (fun _ => 0), (fun _ => 0), (fun _ => 0), (ux_l [(-1), (-1), (-1), (-1), (-1)]), (fun _ => 0), (fun _ => 0), (fun _ => 0), (fun _ => 0), (fun _ => 0), (fun _ => 0), (fun _ => 0), (fun _ => 0)) p0 p1 p2 := by
  subst h_p0
  subst h_p1
  subst h_p2
  refine And.intro (vp_in_iff.mpr (by decide +kernel)) ?_
  refine br_t (by decide +kernel) ?_
  refine And.intro (by decide +kernel) ?_
  refine br_f (by decide +kernel) ?_
  refine And.intro (vp_in_iff.mpr (by decide +kernel)) ?_
  refine And.intro (vp_in_iff.mpr (by decide +kernel)) ?_
  refine nm_r (ux_up (l' := [1, 3]) (k' := 1) (v' := 3) (by decide +kernel) (by decide +kernel) rfl) ?_
  refine And.intro (by decide +kernel) ?_
  refine And.intro (vp_in_iff.mpr (by decide +kernel)) ?_
  refine nm_r (e' := 0) (by decide +kernel) ?_
  refine br_f (by decide +kernel) ?_
  refine ux_slotFor_3 (by decide +kernel) ?_
  refine And.intro (by decide +kernel) ?_
  refine And.intro (vp_in_iff.mpr (by decide +kernel)) ?_
  refine nm_r (ux_up (l' := [1037, 39457, 48, 0]) (k' := 2) (v' := 48) (by decide +kernel) (by decide +kernel) rfl) ?_
  refine And.intro (vp_in_iff.mpr (by decide +kernel)) ?_
  refine nm_r (ux_up (l' := [1]) (k' := 0) (v' := 1) (by decide +kernel) (by decide +kernel) rfl) ?_
  exact hp
theorem ux_file_3 {post : Int32 → St2 → Prop} {p0 : Int32} {p1 : Int32} {p2 : Int32} (h_p0 : p0 = 3) (h_p1 : p1 = 2) (h_p2 : p2 = 48) (hp : post 1 (1, 1, 1, (-1), (-1), 0, 0, (ux_l [0, 0, 0, 0]), (ux_l [0, (-1), (-1)]), (ux_l [1]), (ux_l [1037, 39457, 48, 0]), (ux_l [2, 1]), (ux_l [1, 3]), (ux_l [0, 0, 0, 0, 0, 0]), (ux_l [0, 1]), (ux_l [0, 0]), (ux_l [3]), (ux_l [1]), (ux_l [0, 0]), (fun _ => 0), (fun _ => 0), (fun _ => 0), (fun _ => 0), (fun _ => 0), (fun _ => 0), (fun _ => 0), (fun _ => 0), (fun _ => 0), (fun _ => 0), (ux_l [(-1), (-1), (-1), (-1), (-1)]), (fun _ => 0), (fun _ => 0), (fun _ => 0), (fun _ => 0), (fun _ => 0), (fun _ => 0), (fun _ => 0), (fun _ => 0))) : wpX_file post (1, 1, 1, (-1), (-1), 0, 0, (ux_l [0, 0, 0, 0]), (ux_l [0, (-1), (-1)]), (ux_l [1]), (ux_l [1037, 39457, 0, 0]), (ux_l [2, 1]), (ux_l [1, 2]), (ux_l [0, 0, 0, 0, 0, 0]), (ux_l [0, 1]), (ux_l [0, 0]), (ux_l [3]), (ux_l [1]), (ux_l [0, 0]), (fun _ => 0), (fun _ => 0), (fun _ => 0), (fun _ => 0), (fun _ => 0), (fun _ => 0), (fun _ => 0), (fun _ => 0), (fun _ => 0), (fun _ => 0), (ux_l [(-1), (-1), (-1), (-1), (-1)]), (fun _ => 0), (fun _ => 0), (fun _ => 0), (fun _ => 0), (fun _ => 0), (fun _ => 0), (fun _ => 0), (fun _ => 0)) p0 p1 p2 := by
  subst h_p0
  subst h_p1
  subst h_p2
  refine br_f (by decide +kernel) ?_
  refine br_f (by decide +kernel) ?_
  refine br_f (by decide +kernel) ?_
  refine br_f (by decide +kernel) ?_
  refine br_t (by decide +kernel) ?_
  refine nm_r (e' := 0) (by decide +kernel) ?_
  refine Exists.intro 24 ?_
  refine And.intro (vp_in_iff.mpr (by decide +kernel)) ?_
  refine br_f (by decide +kernel) ?_
  refine And.intro (vp_in_iff.mpr (by decide +kernel)) ?_
  refine br_t (by decide +kernel) ?_
  refine br_t (by decide +kernel) ?_
  refine And.intro (vp_in_iff.mpr (by decide +kernel)) ?_
  refine br_f (by decide +kernel) ?_
  refine And.intro (vp_in_iff.mpr (by decide +kernel)) ?_
  refine br_f (by decide +kernel) ?_
  refine br_t (by decide +kernel) ?_
  refine And.intro (vp_in_iff.mpr (by decide +kernel)) ?_
  refine br_t (by decide +kernel) ?_
  refine br_t (by decide +kernel) ?_
  refine br_t (by decide +kernel) ?_
  refine ux_putWord_3 (by decide +kernel) (by decide +kernel) (by decide +kernel) ?_
  exact ek_v (P := fun r => post r (1, 1, 1, (-1), (-1), 0, 0, (ux_l [0, 0, 0, 0]), (ux_l [0, (-1), (-1)]), (ux_l [1]), (ux_l [1037, 39457, 48, 0]), (ux_l [2, 1]), (ux_l [1, 3]), (ux_l [0, 0, 0, 0, 0, 0]), (ux_l [0, 1]), (ux_l [0, 0]), (ux_l [3]), (ux_l [1]), (ux_l [0, 0]), (fun _ => 0), (fun _ => 0), (fun _ => 0), (fun _ => 0), (fun _ => 0), (fun _ => 0), (fun _ => 0), (fun _ => 0), (fun _ => 0), (fun _ => 0), (ux_l [(-1), (-1), (-1), (-1), (-1)]), (fun _ => 0), (fun _ => 0), (fun _ => 0), (fun _ => 0), (fun _ => 0), (fun _ => 0), (fun _ => 0), (fun _ => 0))) (by decide +kernel) hp
theorem ux_slotFor_2_1 {post : Int32 → St2 → Prop} {p0 : Int32} (h_p0 : p0 = 0) (hp : post 0 (1, 1, 1, (-1), (-1), 0, 0, (ux_l [0, 0, 0, 0]), (ux_l [0, (-1), (-1)]), (ux_l [1]), (ux_l [1037, 39457, 48, 0]), (ux_l [2, 1]), (ux_l [1, 3]), (ux_l [0, 0, 0, 0, 0, 0]), (ux_l [0, 1]), (ux_l [0, 0]), (ux_l [3]), (ux_l [1]), (ux_l [0, 0]), (fun _ => 0), (fun _ => 0), (fun _ => 0), (fun _ => 0), (fun _ => 0), (fun _ => 0), (fun _ => 0), (fun _ => 0), (fun _ => 0), (fun _ => 0), (ux_l [(-1), (-1), (-1), (-1), (-1)]), (fun _ => 0), (ux_l [3]), (fun _ => 0), (ux_l [3, 0, 0, 0]), (ux_l [0]), (ux_l [0, 0, 0, 0]), (fun _ => 0), (fun _ => 0))) : wpX_slotFor_2 post (1, 1, 1, (-1), (-1), 0, 0, (ux_l [0, 0, 0, 0]), (ux_l [0, (-1), (-1)]), (ux_l [1]), (ux_l [1037, 39457, 48, 0]), (ux_l [2, 1]), (ux_l [1, 3]), (ux_l [0, 0, 0, 0, 0, 0]), (ux_l [0, 1]), (ux_l [0, 0]), (ux_l [3]), (ux_l [1]), (ux_l [0, 0]), (fun _ => 0), (fun _ => 0), (fun _ => 0), (fun _ => 0), (fun _ => 0), (fun _ => 0), (fun _ => 0), (fun _ => 0), (fun _ => 0), (fun _ => 0), (ux_l [(-1), (-1), (-1), (-1), (-1)]), (fun _ => 0), (ux_l [3]), (fun _ => 0), (ux_l [3, 0, 0, 0]), (ux_l [0]), (ux_l [0, 0, 0, 0]), (fun _ => 0), (fun _ => 0)) p0 := by
  subst h_p0
  refine Exists.intro 24 ?_
  refine br_f (by decide +kernel) ?_
  refine And.intro (vp_in_iff.mpr (by decide +kernel)) ?_
  refine br_t (by decide +kernel) ?_
  exact ek_v (P := fun r => post r (1, 1, 1, (-1), (-1), 0, 0, (ux_l [0, 0, 0, 0]), (ux_l [0, (-1), (-1)]), (ux_l [1]), (ux_l [1037, 39457, 48, 0]), (ux_l [2, 1]), (ux_l [1, 3]), (ux_l [0, 0, 0, 0, 0, 0]), (ux_l [0, 1]), (ux_l [0, 0]), (ux_l [3]), (ux_l [1]), (ux_l [0, 0]), (fun _ => 0), (fun _ => 0), (fun _ => 0), (fun _ => 0), (fun _ => 0), (fun _ => 0), (fun _ => 0), (fun _ => 0), (fun _ => 0), (fun _ => 0), (ux_l [(-1), (-1), (-1), (-1), (-1)]), (fun _ => 0), (ux_l [3]), (fun _ => 0), (ux_l [3, 0, 0, 0]), (ux_l [0]), (ux_l [0, 0, 0, 0]), (fun _ => 0), (fun _ => 0))) (by decide +kernel) hp
theorem ux_wordAt_1 {post : Int32 → St2 → Prop} {p0 : Int32} {p1 : Int32} (h_p0 : p0 = 1) (h_p1 : p1 = 0) (hp : post 1037 (1, 1, 1, (-1), (-1), 0, 0, (ux_l [0, 0, 0, 0]), (ux_l [0, (-1), (-1)]), (ux_l [1]), (ux_l [1037, 39457, 48, 0]), (ux_l [2, 1]), (ux_l [1, 3]), (ux_l [0, 0, 0, 0, 0, 0]), (ux_l [0, 1]), (ux_l [0, 0]), (ux_l [3]), (ux_l [1]), (ux_l [0, 0]), (fun _ => 0), (fun _ => 0), (fun _ => 0), (fun _ => 0), (fun _ => 0), (fun _ => 0), (fun _ => 0), (fun _ => 0), (fun _ => 0), (fun _ => 0), (ux_l [(-1), (-1), (-1), (-1), (-1)]), (fun _ => 0), (ux_l [3]), (fun _ => 0), (ux_l [3, 0, 0, 0]), (ux_l [0]), (ux_l [0, 0, 0, 0]), (fun _ => 0), (fun _ => 0))) : wpX_wordAt post (1, 1, 1, (-1), (-1), 0, 0, (ux_l [0, 0, 0, 0]), (ux_l [0, (-1), (-1)]), (ux_l [1]), (ux_l [1037, 39457, 48, 0]), (ux_l [2, 1]), (ux_l [1, 3]), (ux_l [0, 0, 0, 0, 0, 0]), (ux_l [0, 1]), (ux_l [0, 0]), (ux_l [3]), (ux_l [1]), (ux_l [0, 0]), (fun _ => 0), (fun _ => 0), (fun _ => 0), (fun _ => 0), (fun _ => 0), (fun _ => 0), (fun _ => 0), (fun _ => 0), (fun _ => 0), (fun _ => 0), (ux_l [(-1), (-1), (-1), (-1), (-1)]), (fun _ => 0), (ux_l [3]), (fun _ => 0), (ux_l [3, 0, 0, 0]), (ux_l [0]), (ux_l [0, 0, 0, 0]), (fun _ => 0), (fun _ => 0)) p0 p1 := by
  subst h_p0
  subst h_p1
  refine And.intro (by decide +kernel) ?_
  refine And.intro (vp_in_iff.mpr (by decide +kernel)) ?_
  refine nm_r (e' := 0) (by decide +kernel) ?_
  refine br_f (by decide +kernel) ?_
  refine ux_slotFor_2_1 (by decide +kernel) ?_
  refine And.intro (by decide +kernel) ?_
  refine And.intro (vp_in_iff.mpr (by decide +kernel)) ?_
  exact ek_v (P := fun r => post r (1, 1, 1, (-1), (-1), 0, 0, (ux_l [0, 0, 0, 0]), (ux_l [0, (-1), (-1)]), (ux_l [1]), (ux_l [1037, 39457, 48, 0]), (ux_l [2, 1]), (ux_l [1, 3]), (ux_l [0, 0, 0, 0, 0, 0]), (ux_l [0, 1]), (ux_l [0, 0]), (ux_l [3]), (ux_l [1]), (ux_l [0, 0]), (fun _ => 0), (fun _ => 0), (fun _ => 0), (fun _ => 0), (fun _ => 0), (fun _ => 0), (fun _ => 0), (fun _ => 0), (fun _ => 0), (fun _ => 0), (ux_l [(-1), (-1), (-1), (-1), (-1)]), (fun _ => 0), (ux_l [3]), (fun _ => 0), (ux_l [3, 0, 0, 0]), (ux_l [0]), (ux_l [0, 0, 0, 0]), (fun _ => 0), (fun _ => 0))) (by decide +kernel) hp
theorem ux_slotFor_2_2 {post : Int32 → St2 → Prop} {p0 : Int32} (h_p0 : p0 = 0) (hp : post 0 (1, 1, 1, (-1), (-1), 0, 0, (ux_l [0, 0, 0, 0]), (ux_l [0, (-1), (-1)]), (ux_l [1]), (ux_l [1037, 39457, 48, 0]), (ux_l [2, 1]), (ux_l [1, 3]), (ux_l [0, 0, 0, 0, 0, 0]), (ux_l [0, 1]), (ux_l [0, 0]), (ux_l [3]), (ux_l [1]), (ux_l [0, 0]), (fun _ => 0), (fun _ => 0), (fun _ => 0), (fun _ => 0), (fun _ => 0), (fun _ => 0), (fun _ => 0), (fun _ => 0), (fun _ => 0), (fun _ => 0), (ux_l [(-1), (-1), (-1), (-1), (-1)]), (fun _ => 0), (ux_l [3]), (ux_l [1037]), (ux_l [3, 0, 0, 0]), (ux_l [0]), (ux_l [0, 0, 0, 0]), (fun _ => 0), (fun _ => 0))) : wpX_slotFor_2 post (1, 1, 1, (-1), (-1), 0, 0, (ux_l [0, 0, 0, 0]), (ux_l [0, (-1), (-1)]), (ux_l [1]), (ux_l [1037, 39457, 48, 0]), (ux_l [2, 1]), (ux_l [1, 3]), (ux_l [0, 0, 0, 0, 0, 0]), (ux_l [0, 1]), (ux_l [0, 0]), (ux_l [3]), (ux_l [1]), (ux_l [0, 0]), (fun _ => 0), (fun _ => 0), (fun _ => 0), (fun _ => 0), (fun _ => 0), (fun _ => 0), (fun _ => 0), (fun _ => 0), (fun _ => 0), (fun _ => 0), (ux_l [(-1), (-1), (-1), (-1), (-1)]), (fun _ => 0), (ux_l [3]), (ux_l [1037]), (ux_l [3, 0, 0, 0]), (ux_l [0]), (ux_l [0, 0, 0, 0]), (fun _ => 0), (fun _ => 0)) p0 := by
  subst h_p0
  refine Exists.intro 24 ?_
  refine br_f (by decide +kernel) ?_
  refine And.intro (vp_in_iff.mpr (by decide +kernel)) ?_
  refine br_t (by decide +kernel) ?_
  exact ek_v (P := fun r => post r (1, 1, 1, (-1), (-1), 0, 0, (ux_l [0, 0, 0, 0]), (ux_l [0, (-1), (-1)]), (ux_l [1]), (ux_l [1037, 39457, 48, 0]), (ux_l [2, 1]), (ux_l [1, 3]), (ux_l [0, 0, 0, 0, 0, 0]), (ux_l [0, 1]), (ux_l [0, 0]), (ux_l [3]), (ux_l [1]), (ux_l [0, 0]), (fun _ => 0), (fun _ => 0), (fun _ => 0), (fun _ => 0), (fun _ => 0), (fun _ => 0), (fun _ => 0), (fun _ => 0), (fun _ => 0), (fun _ => 0), (ux_l [(-1), (-1), (-1), (-1), (-1)]), (fun _ => 0), (ux_l [3]), (ux_l [1037]), (ux_l [3, 0, 0, 0]), (ux_l [0]), (ux_l [0, 0, 0, 0]), (fun _ => 0), (fun _ => 0))) (by decide +kernel) hp
theorem ux_wordAt_2 {post : Int32 → St2 → Prop} {p0 : Int32} {p1 : Int32} (h_p0 : p0 = 1) (h_p1 : p1 = 1) (hp : post 39457 (1, 1, 1, (-1), (-1), 0, 0, (ux_l [0, 0, 0, 0]), (ux_l [0, (-1), (-1)]), (ux_l [1]), (ux_l [1037, 39457, 48, 0]), (ux_l [2, 1]), (ux_l [1, 3]), (ux_l [0, 0, 0, 0, 0, 0]), (ux_l [0, 1]), (ux_l [0, 0]), (ux_l [3]), (ux_l [1]), (ux_l [0, 0]), (fun _ => 0), (fun _ => 0), (fun _ => 0), (fun _ => 0), (fun _ => 0), (fun _ => 0), (fun _ => 0), (fun _ => 0), (fun _ => 0), (fun _ => 0), (ux_l [(-1), (-1), (-1), (-1), (-1)]), (fun _ => 0), (ux_l [3]), (ux_l [1037]), (ux_l [3, 0, 0, 0]), (ux_l [0]), (ux_l [0, 0, 0, 0]), (fun _ => 0), (fun _ => 0))) : wpX_wordAt post (1, 1, 1, (-1), (-1), 0, 0, (ux_l [0, 0, 0, 0]), (ux_l [0, (-1), (-1)]), (ux_l [1]), (ux_l [1037, 39457, 48, 0]), (ux_l [2, 1]), (ux_l [1, 3]), (ux_l [0, 0, 0, 0, 0, 0]), (ux_l [0, 1]), (ux_l [0, 0]), (ux_l [3]), (ux_l [1]), (ux_l [0, 0]), (fun _ => 0), (fun _ => 0), (fun _ => 0), (fun _ => 0), (fun _ => 0), (fun _ => 0), (fun _ => 0), (fun _ => 0), (fun _ => 0), (fun _ => 0), (ux_l [(-1), (-1), (-1), (-1), (-1)]), (fun _ => 0), (ux_l [3]), (ux_l [1037]), (ux_l [3, 0, 0, 0]), (ux_l [0]), (ux_l [0, 0, 0, 0]), (fun _ => 0), (fun _ => 0)) p0 p1 := by
  subst h_p0
  subst h_p1
  refine And.intro (by decide +kernel) ?_
  refine And.intro (vp_in_iff.mpr (by decide +kernel)) ?_
  refine nm_r (e' := 0) (by decide +kernel) ?_
  refine br_f (by decide +kernel) ?_
  refine ux_slotFor_2_2 (by decide +kernel) ?_
  refine And.intro (by decide +kernel) ?_
  refine And.intro (vp_in_iff.mpr (by decide +kernel)) ?_
  exact ek_v (P := fun r => post r (1, 1, 1, (-1), (-1), 0, 0, (ux_l [0, 0, 0, 0]), (ux_l [0, (-1), (-1)]), (ux_l [1]), (ux_l [1037, 39457, 48, 0]), (ux_l [2, 1]), (ux_l [1, 3]), (ux_l [0, 0, 0, 0, 0, 0]), (ux_l [0, 1]), (ux_l [0, 0]), (ux_l [3]), (ux_l [1]), (ux_l [0, 0]), (fun _ => 0), (fun _ => 0), (fun _ => 0), (fun _ => 0), (fun _ => 0), (fun _ => 0), (fun _ => 0), (fun _ => 0), (fun _ => 0), (fun _ => 0), (ux_l [(-1), (-1), (-1), (-1), (-1)]), (fun _ => 0), (ux_l [3]), (ux_l [1037]), (ux_l [3, 0, 0, 0]), (ux_l [0]), (ux_l [0, 0, 0, 0]), (fun _ => 0), (fun _ => 0))) (by decide +kernel) hp
theorem ux_slotFor_2_3 {post : Int32 → St2 → Prop} {p0 : Int32} (h_p0 : p0 = 0) (hp : post 0 (1, 1, 1, (-1), (-1), 0, 0, (ux_l [0, 0, 0, 0]), (ux_l [0, (-1), (-1)]), (ux_l [1]), (ux_l [1037, 39457, 48, 0]), (ux_l [2, 1]), (ux_l [1, 3]), (ux_l [0, 0, 0, 0, 0, 0]), (ux_l [0, 1]), (ux_l [0, 0]), (ux_l [3]), (ux_l [1]), (ux_l [0, 0]), (fun _ => 0), (fun _ => 0), (fun _ => 0), (fun _ => 0), (fun _ => 0), (fun _ => 0), (fun _ => 0), (fun _ => 0), (fun _ => 0), (fun _ => 0), (ux_l [(-1), (-1), (-1), (-1), (-1)]), (fun _ => 0), (ux_l [3]), (ux_l [1037, 39457]), (ux_l [3, 0, 0, 0]), (ux_l [0]), (ux_l [0, 0, 0, 0]), (fun _ => 0), (fun _ => 0))) : wpX_slotFor_2 post (1, 1, 1, (-1), (-1), 0, 0, (ux_l [0, 0, 0, 0]), (ux_l [0, (-1), (-1)]), (ux_l [1]), (ux_l [1037, 39457, 48, 0]), (ux_l [2, 1]), (ux_l [1, 3]), (ux_l [0, 0, 0, 0, 0, 0]), (ux_l [0, 1]), (ux_l [0, 0]), (ux_l [3]), (ux_l [1]), (ux_l [0, 0]), (fun _ => 0), (fun _ => 0), (fun _ => 0), (fun _ => 0), (fun _ => 0), (fun _ => 0), (fun _ => 0), (fun _ => 0), (fun _ => 0), (fun _ => 0), (ux_l [(-1), (-1), (-1), (-1), (-1)]), (fun _ => 0), (ux_l [3]), (ux_l [1037, 39457]), (ux_l [3, 0, 0, 0]), (ux_l [0]), (ux_l [0, 0, 0, 0]), (fun _ => 0), (fun _ => 0)) p0 := by
  subst h_p0
  refine Exists.intro 24 ?_
  refine br_f (by decide +kernel) ?_
  refine And.intro (vp_in_iff.mpr (by decide +kernel)) ?_
  refine br_t (by decide +kernel) ?_
  exact ek_v (P := fun r => post r (1, 1, 1, (-1), (-1), 0, 0, (ux_l [0, 0, 0, 0]), (ux_l [0, (-1), (-1)]), (ux_l [1]), (ux_l [1037, 39457, 48, 0]), (ux_l [2, 1]), (ux_l [1, 3]), (ux_l [0, 0, 0, 0, 0, 0]), (ux_l [0, 1]), (ux_l [0, 0]), (ux_l [3]), (ux_l [1]), (ux_l [0, 0]), (fun _ => 0), (fun _ => 0), (fun _ => 0), (fun _ => 0), (fun _ => 0), (fun _ => 0), (fun _ => 0), (fun _ => 0), (fun _ => 0), (fun _ => 0), (ux_l [(-1), (-1), (-1), (-1), (-1)]), (fun _ => 0), (ux_l [3]), (ux_l [1037, 39457]), (ux_l [3, 0, 0, 0]), (ux_l [0]), (ux_l [0, 0, 0, 0]), (fun _ => 0), (fun _ => 0))) (by decide +kernel) hp
theorem ux_wordAt_3 {post : Int32 → St2 → Prop} {p0 : Int32} {p1 : Int32} (h_p0 : p0 = 1) (h_p1 : p1 = 2) (hp : post 48 (1, 1, 1, (-1), (-1), 0, 0, (ux_l [0, 0, 0, 0]), (ux_l [0, (-1), (-1)]), (ux_l [1]), (ux_l [1037, 39457, 48, 0]), (ux_l [2, 1]), (ux_l [1, 3]), (ux_l [0, 0, 0, 0, 0, 0]), (ux_l [0, 1]), (ux_l [0, 0]), (ux_l [3]), (ux_l [1]), (ux_l [0, 0]), (fun _ => 0), (fun _ => 0), (fun _ => 0), (fun _ => 0), (fun _ => 0), (fun _ => 0), (fun _ => 0), (fun _ => 0), (fun _ => 0), (fun _ => 0), (ux_l [(-1), (-1), (-1), (-1), (-1)]), (fun _ => 0), (ux_l [3]), (ux_l [1037, 39457]), (ux_l [3, 0, 0, 0]), (ux_l [0]), (ux_l [0, 0, 0, 0]), (fun _ => 0), (fun _ => 0))) : wpX_wordAt post (1, 1, 1, (-1), (-1), 0, 0, (ux_l [0, 0, 0, 0]), (ux_l [0, (-1), (-1)]), (ux_l [1]), (ux_l [1037, 39457, 48, 0]), (ux_l [2, 1]), (ux_l [1, 3]), (ux_l [0, 0, 0, 0, 0, 0]), (ux_l [0, 1]), (ux_l [0, 0]), (ux_l [3]), (ux_l [1]), (ux_l [0, 0]), (fun _ => 0), (fun _ => 0), (fun _ => 0), (fun _ => 0), (fun _ => 0), (fun _ => 0), (fun _ => 0), (fun _ => 0), (fun _ => 0), (fun _ => 0), (ux_l [(-1), (-1), (-1), (-1), (-1)]), (fun _ => 0), (ux_l [3]), (ux_l [1037, 39457]), (ux_l [3, 0, 0, 0]), (ux_l [0]), (ux_l [0, 0, 0, 0]), (fun _ => 0), (fun _ => 0)) p0 p1 := by
  subst h_p0
  subst h_p1
  refine And.intro (by decide +kernel) ?_
  refine And.intro (vp_in_iff.mpr (by decide +kernel)) ?_
  refine nm_r (e' := 0) (by decide +kernel) ?_
  refine br_f (by decide +kernel) ?_
  refine ux_slotFor_2_3 (by decide +kernel) ?_
  refine And.intro (by decide +kernel) ?_
  refine And.intro (vp_in_iff.mpr (by decide +kernel)) ?_
  exact ek_v (P := fun r => post r (1, 1, 1, (-1), (-1), 0, 0, (ux_l [0, 0, 0, 0]), (ux_l [0, (-1), (-1)]), (ux_l [1]), (ux_l [1037, 39457, 48, 0]), (ux_l [2, 1]), (ux_l [1, 3]), (ux_l [0, 0, 0, 0, 0, 0]), (ux_l [0, 1]), (ux_l [0, 0]), (ux_l [3]), (ux_l [1]), (ux_l [0, 0]), (fun _ => 0), (fun _ => 0), (fun _ => 0), (fun _ => 0), (fun _ => 0), (fun _ => 0), (fun _ => 0), (fun _ => 0), (fun _ => 0), (fun _ => 0), (ux_l [(-1), (-1), (-1), (-1), (-1)]), (fun _ => 0), (ux_l [3]), (ux_l [1037, 39457]), (ux_l [3, 0, 0, 0]), (ux_l [0]), (ux_l [0, 0, 0, 0]), (fun _ => 0), (fun _ => 0))) (by decide +kernel) hp
theorem ux_loadProgram_1 {post : St2 → Prop} {p0 : Int32} {p1 : Int32} (h_p0 : p0 = 0) (h_p1 : p1 = 1) (hp : post (1, 1, 1, (-1), (-1), 0, 0, (ux_l [0, 0, 0, 0]), (ux_l [0, (-1), (-1)]), (ux_l [1]), (ux_l [1037, 39457, 48, 0]), (ux_l [2, 1]), (ux_l [1, 3]), (ux_l [0, 0, 0, 0, 0, 0]), (ux_l [0, 1]), (ux_l [0, 0]), (ux_l [3]), (ux_l [1]), (ux_l [0, 0]), (fun _ => 0), (fun _ => 0), (fun _ => 0), (fun _ => 0), (fun _ => 0), (fun _ => 0), (fun _ => 0), (fun _ => 0), (fun _ => 0), (fun _ => 0), (ux_l [(-1), (-1), (-1), (-1), (-1)]), (ux_l [0]), (ux_l [3]), (ux_l [1037, 39457, 48]), (ux_l [3, 0, 0, 0]), (ux_l [0]), (ux_l [0, 0, 0, 0]), (fun _ => 0), (fun _ => 0))) : wpX_loadProgram post (1, 1, 1, (-1), (-1), 0, 0, (ux_l [0, 0, 0, 0]), (ux_l [0, (-1), (-1)]), (ux_l [1]), (ux_l [1037, 39457, 48, 0]), (ux_l [2, 1]), (ux_l [1, 3]), (ux_l [0, 0, 0, 0, 0, 0]), (ux_l [0, 1]), (ux_l [0, 0]), (ux_l [3]), (ux_l [1]), (ux_l [0, 0]), (fun _ => 0), (fun _ => 0), (fun _ => 0), (fun _ => 0), (fun _ => 0), (fun _ => 0), (fun _ => 0), (fun _ => 0), (fun _ => 0), (fun _ => 0), (ux_l [(-1), (-1), (-1), (-1), (-1)]), (fun _ => 0), (fun _ => 0), (fun _ => 0), (ux_l [3, 0, 0, 0]), (ux_l [0]), (ux_l [0, 0, 0, 0]), (fun _ => 0), (fun _ => 0)) p0 p1 := by
  subst h_p0
  subst h_p1
  refine And.intro (vp_in_iff.mpr (by decide +kernel)) ?_
  refine And.intro (vp_in_iff.mpr (by decide +kernel)) ?_
  refine nm_r (ux_up0 (l' := [3]) (k' := 0) (v' := 3) (by decide +kernel) (by decide +kernel) rfl) ?_
  refine Exists.intro 24 ?_
  refine And.intro (vp_in_iff.mpr (by decide +kernel)) ?_
  refine br_f (by decide +kernel) ?_
  refine ux_wordAt_1 (by decide +kernel) (by decide +kernel) ?_
  refine And.intro (vp_in_iff.mpr (by decide +kernel)) ?_
  refine nm_r (ux_up0 (l' := [1037]) (k' := 0) (v' := 1037) (by decide +kernel) (by decide +kernel) rfl) ?_
  refine nm_r (e' := 1) (by decide +kernel) ?_
  refine And.intro (vp_in_iff.mpr (by decide +kernel)) ?_
  refine br_f (by decide +kernel) ?_
  refine ux_wordAt_2 (by decide +kernel) (by decide +kernel) ?_
  refine And.intro (vp_in_iff.mpr (by decide +kernel)) ?_
  refine nm_r (ux_up (l' := [1037, 39457]) (k' := 1) (v' := 39457) (by decide +kernel) (by decide +kernel) rfl) ?_
  refine nm_r (e' := 2) (by decide +kernel) ?_
  refine And.intro (vp_in_iff.mpr (by decide +kernel)) ?_
  refine br_f (by decide +kernel) ?_
  refine ux_wordAt_3 (by decide +kernel) (by decide +kernel) ?_
  refine And.intro (vp_in_iff.mpr (by decide +kernel)) ?_
  refine nm_r (ux_up (l' := [1037, 39457, 48]) (k' := 2) (v' := 48) (by decide +kernel) (by decide +kernel) rfl) ?_
  refine nm_r (e' := 3) (by decide +kernel) ?_
  refine And.intro (vp_in_iff.mpr (by decide +kernel)) ?_
  refine br_t (by decide +kernel) ?_
  refine And.intro (vp_in_iff.mpr (by decide +kernel)) ?_
  refine nm_r (ux_up0 (l' := [0]) (k' := 0) (v' := 0) (by decide +kernel) (by decide +kernel) rfl) ?_
  exact hp
theorem ux_enqueue_1 {post : St2 → Prop} {p0 : Int32} (h_p0 : p0 = 0) (hp : post (1, 1, 1, 0, 0, 0, 0, (ux_l [0, 0, 0, 0]), (ux_l [0, (-1), (-1)]), (ux_l [1]), (ux_l [1037, 39457, 48, 0]), (ux_l [2, 1]), (ux_l [1, 3]), (ux_l [0, 0, 0, 0, 0, 0]), (ux_l [0, 1]), (ux_l [0, 0]), (ux_l [3]), (ux_l [1]), (ux_l [0, 0]), (fun _ => 0), (fun _ => 0), (fun _ => 0), (fun _ => 0), (fun _ => 0), (fun _ => 0), (fun _ => 0), (fun _ => 0), (fun _ => 0), (ux_l [1]), (ux_l [(-1), (-1), (-1), (-1), (-1)]), (ux_l [0]), (ux_l [3]), (ux_l [1037, 39457, 48]), (ux_l [3, 0, 0, 0]), (ux_l [0]), (ux_l [0, 0, 0, 0]), (ux_l [(-1)]), (fun _ => 0))) : wpX_enqueue post (1, 1, 1, (-1), (-1), 0, 0, (ux_l [0, 0, 0, 0]), (ux_l [0, (-1), (-1)]), (ux_l [1]), (ux_l [1037, 39457, 48, 0]), (ux_l [2, 1]), (ux_l [1, 3]), (ux_l [0, 0, 0, 0, 0, 0]), (ux_l [0, 1]), (ux_l [0, 0]), (ux_l [3]), (ux_l [1]), (ux_l [0, 0]), (fun _ => 0), (fun _ => 0), (fun _ => 0), (fun _ => 0), (fun _ => 0), (fun _ => 0), (fun _ => 0), (fun _ => 0), (fun _ => 0), (ux_l [1]), (ux_l [(-1), (-1), (-1), (-1), (-1)]), (ux_l [0]), (ux_l [3]), (ux_l [1037, 39457, 48]), (ux_l [3, 0, 0, 0]), (ux_l [0]), (ux_l [0, 0, 0, 0]), (fun _ => 0), (fun _ => 0)) p0 := by
  subst h_p0
  refine And.intro (vp_in_iff.mpr (by decide +kernel)) ?_
  refine nm_r (ux_up0 (l' := [(-1)]) (k' := 0) (v' := (-1)) (by decide +kernel) (by decide +kernel) rfl) ?_
  refine br_t (by decide +kernel) ?_
  exact hp
theorem ux_spawn_1 {post : Int32 → St2 → Prop} {p0 : Int32} {p1 : Int32} (h_p0 : p0 = 3) (h_p1 : p1 = 3) (hp : post 0 (1, 1, 1, 0, 0, 0, 0, (ux_l [0, 0, 0, 0]), (ux_l [0, (-1), (-1)]), (ux_l [1]), (ux_l [1037, 39457, 48, 0]), (ux_l [2, 1]), (ux_l [1, 3]), (ux_l [0, 0, 0, 0, 0, 0]), (ux_l [0, 1]), (ux_l [0, 0]), (ux_l [3]), (ux_l [1]), (ux_l [0, 0]), (fun _ => 0), (fun _ => 0), (fun _ => 0), (fun _ => 0), (fun _ => 0), (fun _ => 0), (fun _ => 0), (fun _ => 0), (fun _ => 0), (ux_l [1]), (ux_l [(-1), (-1), (-1), (-1), (-1)]), (ux_l [0]), (ux_l [3]), (ux_l [1037, 39457, 48]), (ux_l [3, 0, 0, 0]), (ux_l [0]), (ux_l [0, 0, 0, 0]), (ux_l [(-1)]), (fun _ => 0))) : wpX_spawn post (1, 1, 1, (-1), (-1), 0, 0, (ux_l [0, 0, 0, 0]), (ux_l [0, (-1), (-1)]), (ux_l [1]), (ux_l [1037, 39457, 48, 0]), (ux_l [2, 1]), (ux_l [1, 3]), (ux_l [0, 0, 0, 0, 0, 0]), (ux_l [0, 1]), (ux_l [0, 0]), (ux_l [3]), (ux_l [1]), (ux_l [0, 0]), (fun _ => 0), (fun _ => 0), (fun _ => 0), (fun _ => 0), (fun _ => 0), (fun _ => 0), (fun _ => 0), (fun _ => 0), (fun _ => 0), (fun _ => 0), (ux_l [(-1), (-1), (-1), (-1), (-1)]), (fun _ => 0), (fun _ => 0), (fun _ => 0), (fun _ => 0), (fun _ => 0), (fun _ => 0), (fun _ => 0), (fun _ => 0)) p0 p1 := by
  subst h_p0
  subst h_p1
  refine Exists.intro 24 ?_
  refine br_f (by decide +kernel) ?_
  refine And.intro (vp_in_iff.mpr (by decide +kernel)) ?_
  refine br_t (by decide +kernel) ?_
  refine br_f (by decide +kernel) ?_
  refine br_f (by decide +kernel) ?_
  refine br_f (by decide +kernel) ?_
  refine nm_r (e' := 0) (by decide +kernel) ?_
  refine Exists.intro 24 ?_
  refine And.intro (vp_in_iff.mpr (by decide +kernel)) ?_
  refine br_f (by decide +kernel) ?_
  refine And.intro (vp_in_iff.mpr (by decide +kernel)) ?_
  refine br_t (by decide +kernel) ?_
  refine br_t (by decide +kernel) ?_
  refine And.intro (vp_in_iff.mpr (by decide +kernel)) ?_
  refine br_f (by decide +kernel) ?_
  refine br_f (by decide +kernel) ?_
  refine And.intro (vp_in_iff.mpr (by decide +kernel)) ?_
  refine br_t (by decide +kernel) ?_
  refine And.intro (vp_in_iff.mpr (by decide +kernel)) ?_
  refine nm_r (ux_up (l' := [(-1), (-1), (-1), (-1), (-1)]) (k' := 0) (v' := (-1)) (by decide +kernel) (by decide +kernel) rfl) ?_
  refine And.intro (vp_in_iff.mpr (by decide +kernel)) ?_
  refine nm_r (ux_up0 (l' := [0]) (k' := 0) (v' := 0) (by decide +kernel) (by decide +kernel) rfl) ?_
  refine nm_r (e' := 0) (by decide +kernel) ?_
  refine Exists.intro 24 ?_
  refine br_f (by decide +kernel) ?_
  refine And.intro (vp_in_iff.mpr (by decide +kernel)) ?_
  refine nm_r (ux_up0 (l' := [0]) (k' := 0) (v' := 0) (by decide +kernel) (by decide +kernel) rfl) ?_
  refine And.intro (vp_in_iff.mpr (by decide +kernel)) ?_
  refine nm_r (ux_up0 (l' := [0]) (k' := 0) (v' := 0) (by decide +kernel) (by decide +kernel) rfl) ?_
  refine nm_r (e' := 1) (by decide +kernel) ?_
  refine br_f (by decide +kernel) ?_
  refine And.intro (vp_in_iff.mpr (by decide +kernel)) ?_
  refine nm_r (ux_up (l' := [0, 0]) (k' := 1) (v' := 0) (by decide +kernel) (by decide +kernel) rfl) ?_
  refine And.intro (vp_in_iff.mpr (by decide +kernel)) ?_
  refine nm_r (ux_up (l' := [0, 0]) (k' := 1) (v' := 0) (by decide +kernel) (by decide +kernel) rfl) ?_
  refine nm_r (e' := 2) (by decide +kernel) ?_
  refine br_f (by decide +kernel) ?_
  refine And.intro (vp_in_iff.mpr (by decide +kernel)) ?_
  refine nm_r (ux_up (l' := [0, 0, 0]) (k' := 2) (v' := 0) (by decide +kernel) (by decide +kernel) rfl) ?_
  refine And.intro (vp_in_iff.mpr (by decide +kernel)) ?_
  refine nm_r (ux_up (l' := [0, 0, 0]) (k' := 2) (v' := 0) (by decide +kernel) (by decide +kernel) rfl) ?_
  refine nm_r (e' := 3) (by decide +kernel) ?_
  refine br_f (by decide +kernel) ?_
  refine And.intro (vp_in_iff.mpr (by decide +kernel)) ?_
  refine nm_r (ux_up (l' := [0, 0, 0, 0]) (k' := 3) (v' := 0) (by decide +kernel) (by decide +kernel) rfl) ?_
  refine And.intro (vp_in_iff.mpr (by decide +kernel)) ?_
  refine nm_r (ux_up (l' := [0, 0, 0, 0]) (k' := 3) (v' := 0) (by decide +kernel) (by decide +kernel) rfl) ?_
  refine nm_r (e' := 4) (by decide +kernel) ?_
  refine br_t (by decide +kernel) ?_
  refine And.intro (vp_in_iff.mpr (by decide +kernel)) ?_
  refine nm_r (ux_up (l' := [3, 0, 0, 0]) (k' := 0) (v' := 3) (by decide +kernel) (by decide +kernel) rfl) ?_
  refine ux_loadProgram_1 (by decide +kernel) (by decide +kernel) ?_
  refine And.intro (vp_in_iff.mpr (by decide +kernel)) ?_
  refine nm_r (ux_up0 (l' := [1]) (k' := 0) (v' := 1) (by decide +kernel) (by decide +kernel) rfl) ?_
  refine ux_enqueue_1 (by decide +kernel) ?_
  exact ek_v (P := fun r => post r (1, 1, 1, 0, 0, 0, 0, (ux_l [0, 0, 0, 0]), (ux_l [0, (-1), (-1)]), (ux_l [1]), (ux_l [1037, 39457, 48, 0]), (ux_l [2, 1]), (ux_l [1, 3]), (ux_l [0, 0, 0, 0, 0, 0]), (ux_l [0, 1]), (ux_l [0, 0]), (ux_l [3]), (ux_l [1]), (ux_l [0, 0]), (fun _ => 0), (fun _ => 0), (fun _ => 0), (fun _ => 0), (fun _ => 0), (fun _ => 0), (fun _ => 0), (fun _ => 0), (fun _ => 0), (ux_l [1]), (ux_l [(-1), (-1), (-1), (-1), (-1)]), (ux_l [0]), (ux_l [3]), (ux_l [1037, 39457, 48]), (ux_l [3, 0, 0, 0]), (ux_l [0]), (ux_l [0, 0, 0, 0]), (ux_l [(-1)]), (fun _ => 0))) (by decide +kernel) hp
theorem ux_dequeue_1 {post : Int32 → St2 → Prop} (hp : post 0 (1, 1, 1, (-1), (-1), 0, 0, (ux_l [0, 0, 0, 0]), (ux_l [0, (-1), (-1)]), (ux_l [1]), (ux_l [1037, 39457, 48, 0]), (ux_l [2, 1]), (ux_l [1, 3]), (ux_l [0, 0, 0, 0, 0, 0]), (ux_l [0, 1]), (ux_l [0, 0]), (ux_l [3]), (ux_l [1]), (ux_l [0, 0]), (fun _ => 0), (fun _ => 0), (fun _ => 0), (fun _ => 0), (fun _ => 0), (fun _ => 0), (fun _ => 0), (fun _ => 0), (fun _ => 0), (ux_l [1]), (ux_l [(-1), (-1), (-1), (-1), (-1)]), (ux_l [0]), (ux_l [3]), (ux_l [1037, 39457, 48]), (ux_l [3, 0, 0, 0]), (ux_l [0]), (ux_l [0, 0, 0, 0]), (ux_l [(-1)]), (fun _ => 0))) : wpX_dequeue post (1, 1, 1, 0, 0, 0, 0, (ux_l [0, 0, 0, 0]), (ux_l [0, (-1), (-1)]), (ux_l [1]), (ux_l [1037, 39457, 48, 0]), (ux_l [2, 1]), (ux_l [1, 3]), (ux_l [0, 0, 0, 0, 0, 0]), (ux_l [0, 1]), (ux_l [0, 0]), (ux_l [3]), (ux_l [1]), (ux_l [0, 0]), (fun _ => 0), (fun _ => 0), (fun _ => 0), (fun _ => 0), (fun _ => 0), (fun _ => 0), (fun _ => 0), (fun _ => 0), (fun _ => 0), (ux_l [1]), (ux_l [(-1), (-1), (-1), (-1), (-1)]), (ux_l [0]), (ux_l [3]), (ux_l [1037, 39457, 48]), (ux_l [3, 0, 0, 0]), (ux_l [0]), (ux_l [0, 0, 0, 0]), (ux_l [(-1)]), (fun _ => 0)) := by
  refine br_t (by decide +kernel) ?_
  refine And.intro (vp_in_iff.mpr (by decide +kernel)) ?_
  refine nm_r (e' := (-1)) (by decide +kernel) ?_
  refine br_f (by decide +kernel) ?_
  exact ek_v (P := fun r => post r (1, 1, 1, (-1), (-1), 0, 0, (ux_l [0, 0, 0, 0]), (ux_l [0, (-1), (-1)]), (ux_l [1]), (ux_l [1037, 39457, 48, 0]), (ux_l [2, 1]), (ux_l [1, 3]), (ux_l [0, 0, 0, 0, 0, 0]), (ux_l [0, 1]), (ux_l [0, 0]), (ux_l [3]), (ux_l [1]), (ux_l [0, 0]), (fun _ => 0), (fun _ => 0), (fun _ => 0), (fun _ => 0), (fun _ => 0), (fun _ => 0), (fun _ => 0), (fun _ => 0), (fun _ => 0), (ux_l [1]), (ux_l [(-1), (-1), (-1), (-1), (-1)]), (ux_l [0]), (ux_l [3]), (ux_l [1037, 39457, 48]), (ux_l [3, 0, 0, 0]), (ux_l [0]), (ux_l [0, 0, 0, 0]), (ux_l [(-1)]), (fun _ => 0))) (by decide +kernel) hp
theorem ux_freeBlock_1 {post : St2 → Prop} {p0 : Int32} (h_p0 : p0 = 0) (hp : post (0, 1, 1, (-1), (-1), 1, 0, (ux_l [0, 0, 0, 0]), (ux_l [(-1), (-1), (-1)]), (ux_l [1]), (ux_l [1037, 39457, 48, 0]), (ux_l [2, 1]), (ux_l [1, 3]), (ux_l [0, 0, 0, 0, 0, 0]), (ux_l [0, 1]), (ux_l [0, 0]), (ux_l [3]), (ux_l [1]), (ux_l [0, 0]), (fun _ => 0), (fun _ => 0), (fun _ => 0), (fun _ => 0), (fun _ => 0), (fun _ => 0), (fun _ => 0), (fun _ => 0), (fun _ => 0), (ux_l [1]), (ux_l [(-1), (-1), (-1), (-1), (-1)]), (ux_l [1]), (ux_l [3]), (ux_l [1037, 39457, 48]), (ux_l [3, 0, 0, 0]), (ux_l [0]), (ux_l [0, 0, 0, 0]), (ux_l [(-1)]), (fun _ => 0))) : wpX_freeBlock post (1, 1, 1, (-1), (-1), 1, 0, (ux_l [0, 0, 0, 0]), (ux_l [0, (-1), (-1)]), (ux_l [1]), (ux_l [1037, 39457, 48, 0]), (ux_l [2, 1]), (ux_l [1, 3]), (ux_l [0, 0, 0, 0, 0, 0]), (ux_l [0, 1]), (ux_l [0, 0]), (ux_l [3]), (ux_l [1]), (ux_l [0, 0]), (fun _ => 0), (fun _ => 0), (fun _ => 0), (fun _ => 0), (fun _ => 0), (fun _ => 0), (fun _ => 0), (fun _ => 0), (fun _ => 0), (ux_l [1]), (ux_l [(-1), (-1), (-1), (-1), (-1)]), (ux_l [1]), (ux_l [3]), (ux_l [1037, 39457, 48]), (ux_l [3, 0, 0, 0]), (ux_l [0]), (ux_l [0, 0, 0, 0]), (ux_l [(-1)]), (fun _ => 0)) p0 := by
  subst h_p0
  refine nm_r (e' := 0) (by decide +kernel) ?_
  refine Exists.intro 24 ?_
  refine br_f (by decide +kernel) ?_
  refine And.intro (vp_in_iff.mpr (by decide +kernel)) ?_
  refine br_t (by decide +kernel) ?_
  refine And.intro (vp_in_iff.mpr (by decide +kernel)) ?_
  refine nm_r (ux_up (l' := [(-1), (-1), (-1)]) (k' := 0) (v' := (-1)) (by decide +kernel) (by decide +kernel) rfl) ?_
  refine nm_r (e' := 1) (by decide +kernel) ?_
  refine br_f (by decide +kernel) ?_
  refine And.intro (vp_in_iff.mpr (by decide +kernel)) ?_
  refine br_f (by decide +kernel) ?_
  refine nm_r (e' := 2) (by decide +kernel) ?_
  refine br_f (by decide +kernel) ?_
  refine And.intro (vp_in_iff.mpr (by decide +kernel)) ?_
  refine br_f (by decide +kernel) ?_
  refine nm_r (e' := 3) (by decide +kernel) ?_
  refine br_t (by decide +kernel) ?_
  exact hp
theorem ux_empty_1 {post : St2 → Prop} {p0 : Int32} (h_p0 : p0 = 1) (hp : post (0, 1, 1, (-1), (-1), 1, 0, (ux_l [0, 0, 0, 0]), (ux_l [(-1), (-1), (-1)]), (ux_l [1]), (ux_l [1037, 39457, 48, 0]), (ux_l [2, 1]), (ux_l [1, 0]), (ux_l [0, 0, 0, 0, 0, 0]), (ux_l [0, 1]), (ux_l [0, 0]), (ux_l [3]), (ux_l [1]), (ux_l [0, 0]), (fun _ => 0), (fun _ => 0), (fun _ => 0), (fun _ => 0), (fun _ => 0), (fun _ => 0), (fun _ => 0), (fun _ => 0), (fun _ => 0), (ux_l [1]), (ux_l [(-1), (-1), (-1), (-1), (-1)]), (ux_l [1]), (ux_l [3]), (ux_l [1037, 39457, 48]), (ux_l [3, 0, 0, 0]), (ux_l [0]), (ux_l [0, 0, 0, 0]), (ux_l [(-1)]), (fun _ => 0))) : wpX_empty post (1, 1, 1, (-1), (-1), 1, 0, (ux_l [0, 0, 0, 0]), (ux_l [0, (-1), (-1)]), (ux_l [1]), (ux_l [1037, 39457, 48, 0]), (ux_l [2, 1]), (ux_l [1, 3]), (ux_l [0, 0, 0, 0, 0, 0]), (ux_l [0, 1]), (ux_l [0, 0]), (ux_l [3]), (ux_l [1]), (ux_l [0, 0]), (fun _ => 0), (fun _ => 0), (fun _ => 0), (fun _ => 0), (fun _ => 0), (fun _ => 0), (fun _ => 0), (fun _ => 0), (fun _ => 0), (ux_l [1]), (ux_l [(-1), (-1), (-1), (-1), (-1)]), (ux_l [1]), (ux_l [3]), (ux_l [1037, 39457, 48]), (ux_l [3, 0, 0, 0]), (ux_l [0]), (ux_l [0, 0, 0, 0]), (ux_l [(-1)]), (fun _ => 0)) p0 := by
  subst h_p0
  refine Exists.intro 24 ?_
  refine And.intro (vp_in_iff.mpr (by decide +kernel)) ?_
  refine br_f (by decide +kernel) ?_
  refine And.intro (by decide +kernel) ?_
  refine And.intro (vp_in_iff.mpr (by decide +kernel)) ?_
  refine ux_freeBlock_1 (by decide +kernel) ?_
  refine nm_r (e' := 4) (by decide +kernel) ?_
  refine And.intro (vp_in_iff.mpr (by decide +kernel)) ?_
  refine br_t (by decide +kernel) ?_
  refine And.intro (vp_in_iff.mpr (by decide +kernel)) ?_
  refine nm_r (ux_up (l' := [1, 0]) (k' := 1) (v' := 0) (by decide +kernel) (by decide +kernel) rfl) ?_
  exact hp
theorem ux_open_1 {post : Int32 → St2 → Prop} {p0 : Int32} {p1 : Int32} {p2 : Int32} {p3 : Int32} (h_p0 : p0 = 0) (h_p1 : p1 = 0) (h_p2 : p2 = 3) (h_p3 : p3 = 2) (hp : post 1 (0, 1, 1, (-1), (-1), 1, 0, (ux_l [0, 0, 0, 0]), (ux_l [(-1), (-1), (-1)]), (ux_l [1]), (ux_l [1037, 39457, 48, 0]), (ux_l [2, 1]), (ux_l [1, 0]), (ux_l [0, 0, 0, 0, 0, 0]), (ux_l [0, 1]), (ux_l [0, 1]), (ux_l [3]), (ux_l [1]), (ux_l [0, 0]), (ux_l [1]), (ux_l [1]), (ux_l [0]), (ux_l [1]), (fun _ => 0), (fun _ => 0), (fun _ => 0), (fun _ => 0), (fun _ => 0), (ux_l [1]), (ux_l [(-1), (-1), (-1), (-1), (-1)]), (ux_l [1]), (ux_l [3]), (ux_l [1037, 39457, 48]), (ux_l [0, 0, 0, 0]), (ux_l [0]), (ux_l [1, 0, 0, 0]), (ux_l [(-1)]), (fun _ => 0))) : wpX_open post (1, 1, 1, (-1), (-1), 1, 0, (ux_l [0, 0, 0, 0]), (ux_l [0, (-1), (-1)]), (ux_l [1]), (ux_l [1037, 39457, 48, 0]), (ux_l [2, 1]), (ux_l [1, 3]), (ux_l [0, 0, 0, 0, 0, 0]), (ux_l [0, 1]), (ux_l [0, 0]), (ux_l [3]), (ux_l [1]), (ux_l [0, 0]), (fun _ => 0), (fun _ => 0), (fun _ => 0), (fun _ => 0), (fun _ => 0), (fun _ => 0), (fun _ => 0), (fun _ => 0), (fun _ => 0), (ux_l [1]), (ux_l [(-1), (-1), (-1), (-1), (-1)]), (ux_l [1]), (ux_l [3]), (ux_l [1037, 39457, 48]), (ux_l [3, 0, 0, 0]), (ux_l [0]), (ux_l [0, 0, 0, 0]), (ux_l [(-1)]), (fun _ => 0)) p0 p1 p2 p3 := by
  subst h_p0
  subst h_p1
  subst h_p2
  subst h_p3
  refine Exists.intro 24 ?_
  refine br_f (by decide +kernel) ?_
  refine And.intro (vp_in_iff.mpr (by decide +kernel)) ?_
  refine br_t (by decide +kernel) ?_
  refine Exists.intro 24 ?_
  refine br_f (by decide +kernel) ?_
  refine And.intro (vp_in_iff.mpr (by decide +kernel)) ?_
  refine br_t (by decide +kernel) ?_
  refine br_f (by decide +kernel) ?_
  refine br_t (by decide +kernel) ?_
  refine br_f (by decide +kernel) ?_
  refine br_f (by decide +kernel) ?_
  refine br_f (by decide +kernel) ?_
  refine And.intro (vp_in_iff.mpr (by decide +kernel)) ?_
  refine nm_r (e' := 0) (by decide +kernel) ?_
  refine Exists.intro 24 ?_
  refine And.intro (vp_in_iff.mpr (by decide +kernel)) ?_
  refine br_f (by decide +kernel) ?_
  refine And.intro (vp_in_iff.mpr (by decide +kernel)) ?_
  refine br_t (by decide +kernel) ?_
  refine br_t (by decide +kernel) ?_
  refine And.intro (vp_in_iff.mpr (by decide +kernel)) ?_
  refine br_f (by decide +kernel) ?_
  refine And.intro (vp_in_iff.mpr (by decide +kernel)) ?_
  refine br_t (by decide +kernel) ?_
  refine br_t (by decide +kernel) ?_
  refine br_t (by decide +kernel) ?_
  refine br_t (by decide +kernel) ?_
  refine ux_empty_1 (by decide +kernel) ?_
  refine And.intro (vp_in_iff.mpr (by decide +kernel)) ?_
  refine nm_r (ux_up0 (l' := [1]) (k' := 0) (v' := 1) (by decide +kernel) (by decide +kernel) rfl) ?_
  refine br_f (by decide +kernel) ?_
  refine And.intro (vp_in_iff.mpr (by decide +kernel)) ?_
  refine nm_r (ux_up0 (l' := [1]) (k' := 0) (v' := 1) (by decide +kernel) (by decide +kernel) rfl) ?_
  refine br_f (by decide +kernel) ?_
  refine And.intro (vp_in_iff.mpr (by decide +kernel)) ?_
  refine nm_r (ux_up0 (l' := [0]) (k' := 0) (v' := 0) (by decide +kernel) (by decide +kernel) rfl) ?_
  refine And.intro (vp_in_iff.mpr (by decide +kernel)) ?_
  refine nm_r (ux_up0 (l' := [1]) (k' := 0) (v' := 1) (by decide +kernel) (by decide +kernel) rfl) ?_
  refine And.intro (vp_in_iff.mpr (by decide +kernel)) ?_
  refine And.intro (vp_in_iff.mpr (by decide +kernel)) ?_
  refine nm_r (ux_up (l' := [0, 1]) (k' := 1) (v' := 1) (by decide +kernel) (by decide +kernel) rfl) ?_
  refine And.intro (vp_in_iff.mpr (by decide +kernel)) ?_
  refine nm_r (ux_up (l' := [1, 0, 0, 0]) (k' := 0) (v' := 1) (by decide +kernel) (by decide +kernel) rfl) ?_
  refine And.intro (vp_in_iff.mpr (by decide +kernel)) ?_
  refine nm_r (ux_up (l' := [0, 0, 0, 0]) (k' := 0) (v' := 0) (by decide +kernel) (by decide +kernel) rfl) ?_
  exact hp
theorem ux_callKernel_1 {post : St2 → Prop} {p0 : Int32} {p1 : Int32} {p2 : Int32} {p3 : Int32} {p4 : Int32} (h_p0 : p0 = 0) (h_p1 : p1 = 13) (h_p2 : p2 = 0) (h_p3 : p3 = 0) (h_p4 : p4 = 2) (hp : post (0, 1, 1, (-1), (-1), 1, 0, (ux_l [0, 0, 0, 0]), (ux_l [(-1), (-1), (-1)]), (ux_l [1]), (ux_l [1037, 39457, 48, 0]), (ux_l [2, 1]), (ux_l [1, 0]), (ux_l [0, 0, 0, 0, 0, 0]), (ux_l [0, 1]), (ux_l [0, 1]), (ux_l [3]), (ux_l [1]), (ux_l [0, 0]), (ux_l [1]), (ux_l [1]), (ux_l [0]), (ux_l [1]), (fun _ => 0), (fun _ => 0), (fun _ => 0), (fun _ => 0), (fun _ => 0), (ux_l [1]), (ux_l [(-1), (-1), (-1), (-1), (-1)]), (ux_l [1]), (ux_l [3]), (ux_l [1037, 39457, 48]), (ux_l [0, 0, 0, 0]), (ux_l [0]), (ux_l [1, 0, 0, 0]), (ux_l [(-1)]), (fun _ => 0))) : wpX_callKernel post (1, 1, 1, (-1), (-1), 1, 0, (ux_l [0, 0, 0, 0]), (ux_l [0, (-1), (-1)]), (ux_l [1]), (ux_l [1037, 39457, 48, 0]), (ux_l [2, 1]), (ux_l [1, 3]), (ux_l [0, 0, 0, 0, 0, 0]), (ux_l [0, 1]), (ux_l [0, 0]), (ux_l [3]), (ux_l [1]), (ux_l [0, 0]), (fun _ => 0), (fun _ => 0), (fun _ => 0), (fun _ => 0), (fun _ => 0), (fun _ => 0), (fun _ => 0), (fun _ => 0), (fun _ => 0), (ux_l [1]), (ux_l [(-1), (-1), (-1), (-1), (-1)]), (ux_l [1]), (ux_l [3]), (ux_l [1037, 39457, 48]), (ux_l [3, 0, 0, 0]), (ux_l [0]), (ux_l [0, 0, 0, 0]), (ux_l [(-1)]), (fun _ => 0)) p0 p1 p2 p3 p4 := by
  subst h_p0
  subst h_p1
  subst h_p2
  subst h_p3
  subst h_p4
  refine And.intro (vp_in_iff.mpr (by decide +kernel)) ?_
  refine nm_r (e' := 3) (by decide +kernel) ?_
  refine And.intro (vp_in_iff.mpr (by decide +kernel)) ?_
  refine nm_r (e' := 3) (by decide +kernel) ?_
  refine br_f (by decide +kernel) ?_
  refine br_t (by decide +kernel) ?_
  refine ux_open_1 (by decide +kernel) (by decide +kernel) (by decide +kernel) (by decide +kernel) ?_
  refine br_f (by decide +kernel) ?_
  refine br_t (by decide +kernel) ?_
  refine br_f (by decide +kernel) ?_
  refine br_t (by decide +kernel) ?_
  exact hp
theorem ux_execute_1 {post : St2 → Prop} {p0 : Int32} {p1 : Int32} (h_p0 : p0 = 0) (h_p1 : p1 = 1037) (hp : post (0, 1, 1, (-1), (-1), 1, 0, (ux_l [0, 0, 0, 0]), (ux_l [(-1), (-1), (-1)]), (ux_l [1]), (ux_l [1037, 39457, 48, 0]), (ux_l [2, 1]), (ux_l [1, 0]), (ux_l [0, 0, 0, 0, 0, 0]), (ux_l [0, 1]), (ux_l [0, 1]), (ux_l [3]), (ux_l [1]), (ux_l [0, 0]), (ux_l [1]), (ux_l [1]), (ux_l [0]), (ux_l [1]), (fun _ => 0), (fun _ => 0), (fun _ => 0), (fun _ => 0), (fun _ => 0), (ux_l [1]), (ux_l [(-1), (-1), (-1), (-1), (-1)]), (ux_l [1]), (ux_l [3]), (ux_l [1037, 39457, 48]), (ux_l [0, 0, 0, 0]), (ux_l [0]), (ux_l [1, 0, 0, 0]), (ux_l [(-1)]), (fun _ => 0))) : wpX_execute post (1, 1, 1, (-1), (-1), 1, 0, (ux_l [0, 0, 0, 0]), (ux_l [0, (-1), (-1)]), (ux_l [1]), (ux_l [1037, 39457, 48, 0]), (ux_l [2, 1]), (ux_l [1, 3]), (ux_l [0, 0, 0, 0, 0, 0]), (ux_l [0, 1]), (ux_l [0, 0]), (ux_l [3]), (ux_l [1]), (ux_l [0, 0]), (fun _ => 0), (fun _ => 0), (fun _ => 0), (fun _ => 0), (fun _ => 0), (fun _ => 0), (fun _ => 0), (fun _ => 0), (fun _ => 0), (ux_l [1]), (ux_l [(-1), (-1), (-1), (-1), (-1)]), (ux_l [0]), (ux_l [3]), (ux_l [1037, 39457, 48]), (ux_l [3, 0, 0, 0]), (ux_l [0]), (ux_l [0, 0, 0, 0]), (ux_l [(-1)]), (fun _ => 0)) p0 p1 := by
  subst h_p0
  subst h_p1
  refine nm_r (e' := 13) (by decide +kernel) ?_
  refine nm_r (e' := 0) (by decide +kernel) ?_
  refine nm_r (e' := 0) (by decide +kernel) ?_
  refine nm_r (e' := 2) (by decide +kernel) ?_
  refine And.intro (vp_in_iff.mpr (by decide +kernel)) ?_
  refine nm_r (e' := 3) (by decide +kernel) ?_
  refine And.intro (vp_in_iff.mpr (by decide +kernel)) ?_
  refine nm_r (e' := 3) (by decide +kernel) ?_
  refine And.intro (vp_in_iff.mpr (by decide +kernel)) ?_
  refine And.intro (vp_in_iff.mpr (by decide +kernel)) ?_
  refine nm_r (ux_up (l' := [1]) (k' := 0) (v' := 1) (by decide +kernel) (by decide +kernel) rfl) ?_
  refine br_f (by decide +kernel) ?_
  refine br_t (by decide +kernel) ?_
  refine br_t (by decide +kernel) ?_
  refine br_f (by decide +kernel) ?_
  refine br_f (by decide +kernel) ?_
  refine br_f (by decide +kernel) ?_
  refine br_f (by decide +kernel) ?_
  refine br_f (by decide +kernel) ?_
  refine br_f (by decide +kernel) ?_
  refine br_f (by decide +kernel) ?_
  refine br_f (by decide +kernel) ?_
  refine br_f (by decide +kernel) ?_
  refine br_f (by decide +kernel) ?_
  refine ux_callKernel_1 (by decide +kernel) (by decide +kernel) (by decide +kernel) (by decide +kernel) (by decide +kernel) ?_
  exact hp
theorem ux_execute_2 {post : St2 → Prop} {p0 : Int32} {p1 : Int32} (h_p0 : p0 = 0) (h_p1 : p1 = 39457) (hp : post (0, 1, 1, (-1), (-1), 2, 0, (ux_l [0, 0, 0, 0]), (ux_l [(-1), (-1), (-1)]), (ux_l [1]), (ux_l [1037, 39457, 48, 0]), (ux_l [2, 1]), (ux_l [1, 0]), (ux_l [0, 0, 0, 0, 0, 0]), (ux_l [0, 1]), (ux_l [0, 1]), (ux_l [3]), (ux_l [1]), (ux_l [0, 0]), (ux_l [1]), (ux_l [1]), (ux_l [0]), (ux_l [1]), (fun _ => 0), (fun _ => 0), (fun _ => 0), (fun _ => 0), (fun _ => 0), (ux_l [1]), (ux_l [(-1), (-1), (-1), (-1), (-1)]), (ux_l [2]), (ux_l [3]), (ux_l [1037, 39457, 48]), (ux_l [0, 77, 0, 0]), (ux_l [0]), (ux_l [1, 0, 0, 0]), (ux_l [(-1)]), (fun _ => 0))) : wpX_execute post (0, 1, 1, (-1), (-1), 2, 0, (ux_l [0, 0, 0, 0]), (ux_l [(-1), (-1), (-1)]), (ux_l [1]), (ux_l [1037, 39457, 48, 0]), (ux_l [2, 1]), (ux_l [1, 0]), (ux_l [0, 0, 0, 0, 0, 0]), (ux_l [0, 1]), (ux_l [0, 1]), (ux_l [3]), (ux_l [1]), (ux_l [0, 0]), (ux_l [1]), (ux_l [1]), (ux_l [0]), (ux_l [1]), (fun _ => 0), (fun _ => 0), (fun _ => 0), (fun _ => 0), (fun _ => 0), (ux_l [1]), (ux_l [(-1), (-1), (-1), (-1), (-1)]), (ux_l [1]), (ux_l [3]), (ux_l [1037, 39457, 48]), (ux_l [0, 0, 0, 0]), (ux_l [0]), (ux_l [1, 0, 0, 0]), (ux_l [(-1)]), (fun _ => 0)) p0 p1 := by
  subst h_p0
  subst h_p1
  refine nm_r (e' := 1) (by decide +kernel) ?_
  refine nm_r (e' := 1) (by decide +kernel) ?_
  refine nm_r (e' := 0) (by decide +kernel) ?_
  refine nm_r (e' := 77) (by decide +kernel) ?_
  refine And.intro (vp_in_iff.mpr (by decide +kernel)) ?_
  refine nm_r (e' := 0) (by decide +kernel) ?_
  refine And.intro (vp_in_iff.mpr (by decide +kernel)) ?_
  refine nm_r (e' := 0) (by decide +kernel) ?_
  refine And.intro (vp_in_iff.mpr (by decide +kernel)) ?_
  refine And.intro (vp_in_iff.mpr (by decide +kernel)) ?_
  refine nm_r (ux_up (l' := [2]) (k' := 0) (v' := 2) (by decide +kernel) (by decide +kernel) rfl) ?_
  refine br_f (by decide +kernel) ?_
  refine br_f (by decide +kernel) ?_
  refine br_t (by decide +kernel) ?_
  refine And.intro (vp_in_iff.mpr (by decide +kernel)) ?_
  refine nm_r (ux_up (l' := [0, 77, 0, 0]) (k' := 1) (v' := 77) (by decide +kernel) (by decide +kernel) rfl) ?_
  exact hp
theorem ux_newBlock_2 {post : Int32 → St2 → Prop} (hp : post 0 (1, 1, 1, (-1), (-1), 3, 0, (ux_l [0, 0, 0, 0]), (ux_l [(-1), (-1), (-1)]), (ux_l [1]), (ux_l [1037, 39457, 48, 0]), (ux_l [2, 1]), (ux_l [1, 0]), (ux_l [0, 0, 0, 0, 0, 0]), (ux_l [0, 1]), (ux_l [0, 1]), (ux_l [3]), (ux_l [1]), (ux_l [0, 0]), (ux_l [1]), (ux_l [1]), (ux_l [0]), (ux_l [1]), (fun _ => 0), (fun _ => 0), (fun _ => 0), (fun _ => 0), (fun _ => 0), (ux_l [1]), (ux_l [(-1), (-1), (-1), (-1), (-1)]), (ux_l [3]), (ux_l [3]), (ux_l [1037, 39457, 48]), (ux_l [0, 77, 0, 0]), (ux_l [0]), (ux_l [1, 0, 0, 0]), (ux_l [(-1)]), (fun _ => 0))) : wpX_newBlock post (0, 1, 1, (-1), (-1), 3, 0, (ux_l [0, 0, 0, 0]), (ux_l [(-1), (-1), (-1)]), (ux_l [1]), (ux_l [1037, 39457, 48, 0]), (ux_l [2, 1]), (ux_l [1, 0]), (ux_l [0, 0, 0, 0, 0, 0]), (ux_l [0, 1]), (ux_l [0, 1]), (ux_l [3]), (ux_l [1]), (ux_l [0, 0]), (ux_l [1]), (ux_l [1]), (ux_l [0]), (ux_l [1]), (fun _ => 0), (fun _ => 0), (fun _ => 0), (fun _ => 0), (fun _ => 0), (ux_l [1]), (ux_l [(-1), (-1), (-1), (-1), (-1)]), (ux_l [3]), (ux_l [3]), (ux_l [1037, 39457, 48]), (ux_l [0, 77, 0, 0]), (ux_l [0]), (ux_l [1, 0, 0, 0]), (ux_l [(-1)]), (fun _ => 0)) := by
  refine Exists.intro 24 ?_
  refine br_t (by decide +kernel) ?_
  refine nm_r (e' := 1) (by decide +kernel) ?_
  refine Exists.intro 24 ?_
  refine br_f (by decide +kernel) ?_
  refine And.intro (vp_in_iff.mpr (by decide +kernel)) ?_
  refine nm_r (ux_up (l' := [0, 0, 0, 0]) (k' := 0) (v' := 0) (by decide +kernel) (by decide +kernel) rfl) ?_
  refine nm_r (e' := 1) (by decide +kernel) ?_
  refine br_f (by decide +kernel) ?_
  refine And.intro (vp_in_iff.mpr (by decide +kernel)) ?_
  refine nm_r (ux_up (l' := [0, 0, 0, 0]) (k' := 1) (v' := 0) (by decide +kernel) (by decide +kernel) rfl) ?_
  refine nm_r (e' := 2) (by decide +kernel) ?_
  refine br_f (by decide +kernel) ?_
  refine And.intro (vp_in_iff.mpr (by decide +kernel)) ?_
  refine nm_r (ux_up (l' := [0, 0, 0, 0]) (k' := 2) (v' := 0) (by decide +kernel) (by decide +kernel) rfl) ?_
  refine nm_r (e' := 3) (by decide +kernel) ?_
  refine br_f (by decide +kernel) ?_
  refine And.intro (vp_in_iff.mpr (by decide +kernel)) ?_
  refine nm_r (ux_up (l' := [0, 0, 0, 0]) (k' := 3) (v' := 0) (by decide +kernel) (by decide +kernel) rfl) ?_
  refine nm_r (e' := 4) (by decide +kernel) ?_
  refine br_t (by decide +kernel) ?_
  exact ek_v (P := fun r => post r (1, 1, 1, (-1), (-1), 3, 0, (ux_l [0, 0, 0, 0]), (ux_l [(-1), (-1), (-1)]), (ux_l [1]), (ux_l [1037, 39457, 48, 0]), (ux_l [2, 1]), (ux_l [1, 0]), (ux_l [0, 0, 0, 0, 0, 0]), (ux_l [0, 1]), (ux_l [0, 1]), (ux_l [3]), (ux_l [1]), (ux_l [0, 0]), (ux_l [1]), (ux_l [1]), (ux_l [0]), (ux_l [1]), (fun _ => 0), (fun _ => 0), (fun _ => 0), (fun _ => 0), (fun _ => 0), (ux_l [1]), (ux_l [(-1), (-1), (-1), (-1), (-1)]), (ux_l [3]), (ux_l [3]), (ux_l [1037, 39457, 48]), (ux_l [0, 77, 0, 0]), (ux_l [0]), (ux_l [1, 0, 0, 0]), (ux_l [(-1)]), (fun _ => 0))) (by decide +kernel) hp
theorem ux_writeBack_2 {post : St2 → Prop} {p0 : Int32} (h_p0 : p0 = 1) (hp : post (1, 2, 1, (-1), (-1), 3, 0, (ux_l [0, 0, 0, 0]), (ux_l [(-1), (-1), (-1)]), (ux_l [1, 0]), (ux_l [1037, 39457, 48, 0]), (ux_l [2, 1]), (ux_l [1, 1]), (ux_l [0, 0, 0, 0, 0, 0]), (ux_l [0, 1]), (ux_l [0, 1]), (ux_l [3]), (ux_l [1]), (ux_l [0, 0]), (ux_l [1]), (ux_l [1]), (ux_l [0]), (ux_l [1]), (fun _ => 0), (fun _ => 0), (fun _ => 0), (fun _ => 0), (fun _ => 0), (ux_l [1]), (ux_l [(-1), (-1), (-1), (-1), (-1)]), (ux_l [3]), (ux_l [3]), (ux_l [1037, 39457, 48]), (ux_l [0, 77, 0, 0]), (ux_l [0]), (ux_l [1, 0, 0, 0]), (ux_l [(-1)]), (fun _ => 0))) : wpX_writeBack post (1, 2, 1, (-1), (-1), 3, 0, (ux_l [0, 0, 0, 0]), (ux_l [(-1), (-1), (-1)]), (ux_l [1]), (ux_l [1037, 39457, 48, 0]), (ux_l [2, 1]), (ux_l [1, 1]), (ux_l [0, 0, 0, 0, 0, 0]), (ux_l [0, 1]), (ux_l [0, 1]), (ux_l [3]), (ux_l [1]), (ux_l [0, 0]), (ux_l [1]), (ux_l [1]), (ux_l [0]), (ux_l [1]), (fun _ => 0), (fun _ => 0), (fun _ => 0), (fun _ => 0), (fun _ => 0), (ux_l [1]), (ux_l [(-1), (-1), (-1), (-1), (-1)]), (ux_l [3]), (ux_l [3]), (ux_l [1037, 39457, 48]), (ux_l [0, 77, 0, 0]), (ux_l [0]), (ux_l [1, 0, 0, 0]), (ux_l [(-1)]), (fun _ => 0)) p0 := by
  subst h_p0
  refine And.intro (vp_in_iff.mpr (by decide +kernel)) ?_
  refine nm_r (e' := (-1)) (by decide +kernel) ?_
  refine br_t (by decide +kernel) ?_
  refine And.intro (vp_in_iff.mpr (by decide +kernel)) ?_
  refine nm_r (ux_up (l' := [(-1), (-1), (-1)]) (k' := 1) (v' := (-1)) (by decide +kernel) (by decide +kernel) rfl) ?_
  refine And.intro (vp_in_iff.mpr (by decide +kernel)) ?_
  refine nm_r (ux_up (l' := [1, 0]) (k' := 1) (v' := 0) (by decide +kernel) (by decide +kernel) rfl) ?_
  exact hp
theorem ux_slotFor_4 {post : Int32 → St2 → Prop} {p0 : Int32} (h_p0 : p0 = 0) (hp : post 1 (1, 2, 1, (-1), (-1), 3, 0, (ux_l [0, 0, 0, 0]), (ux_l [(-1), 0, (-1)]), (ux_l [1, 0]), (ux_l [1037, 39457, 48, 0, 0, 0, 0, 0]), (ux_l [2, 1]), (ux_l [1, 1]), (ux_l [0, 0, 0, 0, 0, 0]), (ux_l [0, 1]), (ux_l [0, 1]), (ux_l [3]), (ux_l [1]), (ux_l [0, 0]), (ux_l [1]), (ux_l [1]), (ux_l [0]), (ux_l [1]), (fun _ => 0), (fun _ => 0), (fun _ => 0), (fun _ => 0), (fun _ => 0), (ux_l [1]), (ux_l [(-1), (-1), (-1), (-1), (-1)]), (ux_l [3]), (ux_l [3]), (ux_l [1037, 39457, 48]), (ux_l [0, 77, 0, 0]), (ux_l [0]), (ux_l [1, 0, 0, 0]), (ux_l [(-1)]), (fun _ => 0))) : wpX_slotFor post (1, 1, 1, (-1), (-1), 3, 0, (ux_l [0, 0, 0, 0]), (ux_l [(-1), (-1), (-1)]), (ux_l [1]), (ux_l [1037, 39457, 48, 0]), (ux_l [2, 1]), (ux_l [1, 1]), (ux_l [0, 0, 0, 0, 0, 0]), (ux_l [0, 1]), (ux_l [0, 1]), (ux_l [3]), (ux_l [1]), (ux_l [0, 0]), (ux_l [1]), (ux_l [1]), (ux_l [0]), (ux_l [1]), (fun _ => 0), (fun _ => 0), (fun _ => 0), (fun _ => 0), (fun _ => 0), (ux_l [1]), (ux_l [(-1), (-1), (-1), (-1), (-1)]), (ux_l [3]), (ux_l [3]), (ux_l [1037, 39457, 48]), (ux_l [0, 77, 0, 0]), (ux_l [0]), (ux_l [1, 0, 0, 0]), (ux_l [(-1)]), (fun _ => 0)) p0 := by
  subst h_p0
  refine Exists.intro 24 ?_
  refine br_f (by decide +kernel) ?_
  refine And.intro (vp_in_iff.mpr (by decide +kernel)) ?_
  refine br_f (by decide +kernel) ?_
  refine nm_r (e' := 1) (by decide +kernel) ?_
  refine br_f (by decide +kernel) ?_
  refine And.intro (vp_in_iff.mpr (by decide +kernel)) ?_
  refine br_f (by decide +kernel) ?_
  refine nm_r (e' := 2) (by decide +kernel) ?_
  refine br_f (by decide +kernel) ?_
  refine And.intro (vp_in_iff.mpr (by decide +kernel)) ?_
  refine br_f (by decide +kernel) ?_
  refine nm_r (e' := 3) (by decide +kernel) ?_
  refine br_t (by decide +kernel) ?_
  refine And.intro (by decide +kernel) ?_
  refine nm_r (e' := 2) (by decide +kernel) ?_
  refine ux_writeBack_2 (by decide +kernel) ?_
  refine And.intro (vp_in_iff.mpr (by decide +kernel)) ?_
  refine nm_r (ux_up (l' := [(-1), 0, (-1)]) (k' := 1) (v' := 0) (by decide +kernel) (by decide +kernel) rfl) ?_
  refine Exists.intro 24 ?_
  refine br_f (by decide +kernel) ?_
  refine And.intro (vp_in_iff.mpr (by decide +kernel)) ?_
  refine And.intro (vp_in_iff.mpr (by decide +kernel)) ?_
  refine nm_r (ux_up (l' := [1037, 39457, 48, 0, 0]) (k' := 4) (v' := 0) (by decide +kernel) (by decide +kernel) rfl) ?_
  refine nm_r (e' := 1) (by decide +kernel) ?_
  refine br_f (by decide +kernel) ?_
  refine And.intro (vp_in_iff.mpr (by decide +kernel)) ?_
  refine And.intro (vp_in_iff.mpr (by decide +kernel)) ?_
  refine nm_r (ux_up (l' := [1037, 39457, 48, 0, 0, 0]) (k' := 5) (v' := 0) (by decide +kernel) (by decide +kernel) rfl) ?_
  refine nm_r (e' := 2) (by decide +kernel) ?_
  refine br_f (by decide +kernel) ?_
  refine And.intro (vp_in_iff.mpr (by decide +kernel)) ?_
  refine And.intro (vp_in_iff.mpr (by decide +kernel)) ?_
  refine nm_r (ux_up (l' := [1037, 39457, 48, 0, 0, 0, 0]) (k' := 6) (v' := 0) (by decide +kernel) (by decide +kernel) rfl) ?_
  refine nm_r (e' := 3) (by decide +kernel) ?_
  refine br_f (by decide +kernel) ?_
  refine And.intro (vp_in_iff.mpr (by decide +kernel)) ?_
  refine And.intro (vp_in_iff.mpr (by decide +kernel)) ?_
  refine nm_r (ux_up (l' := [1037, 39457, 48, 0, 0, 0, 0, 0]) (k' := 7) (v' := 0) (by decide +kernel) (by decide +kernel) rfl) ?_
  refine nm_r (e' := 4) (by decide +kernel) ?_
  refine br_t (by decide +kernel) ?_
  exact ek_v (P := fun r => post r (1, 2, 1, (-1), (-1), 3, 0, (ux_l [0, 0, 0, 0]), (ux_l [(-1), 0, (-1)]), (ux_l [1, 0]), (ux_l [1037, 39457, 48, 0, 0, 0, 0, 0]), (ux_l [2, 1]), (ux_l [1, 1]), (ux_l [0, 0, 0, 0, 0, 0]), (ux_l [0, 1]), (ux_l [0, 1]), (ux_l [3]), (ux_l [1]), (ux_l [0, 0]), (ux_l [1]), (ux_l [1]), (ux_l [0]), (ux_l [1]), (fun _ => 0), (fun _ => 0), (fun _ => 0), (fun _ => 0), (fun _ => 0), (ux_l [1]), (ux_l [(-1), (-1), (-1), (-1), (-1)]), (ux_l [3]), (ux_l [3]), (ux_l [1037, 39457, 48]), (ux_l [0, 77, 0, 0]), (ux_l [0]), (ux_l [1, 0, 0, 0]), (ux_l [(-1)]), (fun _ => 0))) (by decide +kernel) hp
theorem ux_putWord_4 {post : St2 → Prop} {p0 : Int32} {p1 : Int32} {p2 : Int32} (h_p0 : p0 = 1) (h_p1 : p1 = 0) (h_p2 : p2 = 77) (hp : post (1, 2, 1, (-1), (-1), 3, 0, (ux_l [0, 0, 0, 0]), (ux_l [(-1), 0, (-1)]), (ux_l [1, 1]), (ux_l [1037, 39457, 48, 0, 77, 0, 0, 0]), (ux_l [2, 1]), (ux_l [1, 1]), (ux_l [0, 0, 0, 0, 0, 0]), (ux_l [0, 1]), (ux_l [0, 1]), (ux_l [3]), (ux_l [1]), (ux_l [0, 0]), (ux_l [1]), (ux_l [1]), (ux_l [0]), (ux_l [1]), (fun _ => 0), (fun _ => 0), (fun _ => 0), (fun _ => 0), (fun _ => 0), (ux_l [1]), (ux_l [(-1), (-1), (-1), (-1), (-1)]), (ux_l [3]), (ux_l [3]), (ux_l [1037, 39457, 48]), (ux_l [0, 77, 0, 0]), (ux_l [0]), (ux_l [1, 0, 0, 0]), (ux_l [(-1)]), (fun _ => 0))) : wpX_putWord post (0, 1, 1, (-1), (-1), 3, 0, (ux_l [0, 0, 0, 0]), (ux_l [(-1), (-1), (-1)]), (ux_l [1]), (ux_l [1037, 39457, 48, 0]), (ux_l [2, 1]), (ux_l [1, 0]), (ux_l [0, 0, 0, 0, 0, 0]), (ux_l [0, 1]), (ux_l [0, 1]), (ux_l [3]), (ux_l [1]), (ux_l [0, 0]), (ux_l [1]), (ux_l [1]), (ux_l [0]), (ux_l [1]), (fun _ => 0), (fun _ => 0), (fun _ => 0), (fun _ => 0), (fun _ => 0), (ux_l [1]), (ux_l [(-1), (-1), (-1), (-1), (-1)]), (ux_l [3]), (ux_l [3]), (ux_l [1037, 39457, 48]), (ux_l [0, 77, 0, 0]), (ux_l [0]), (ux_l [1, 0, 0, 0]), (ux_l [(-1)]), (fun _ => 0)) p0 p1 p2 := by
  subst h_p0
  subst h_p1
  subst h_p2
  refine And.intro (vp_in_iff.mpr (by decide +kernel)) ?_
  refine br_t (by decide +kernel) ?_
  refine And.intro (by decide +kernel) ?_
  refine br_t (by decide +kernel) ?_
  refine And.intro (by decide +kernel) ?_
  refine ux_newBlock_2  ?_
  refine And.intro (vp_in_iff.mpr (by decide +kernel)) ?_
  refine nm_r (ux_up (l' := [0, 0, 0, 0, 0, 0]) (k' := 5) (v' := 0) (by decide +kernel) (by decide +kernel) rfl) ?_
  refine And.intro (vp_in_iff.mpr (by decide +kernel)) ?_
  refine And.intro (vp_in_iff.mpr (by decide +kernel)) ?_
  refine nm_r (ux_up (l' := [1, 1]) (k' := 1) (v' := 1) (by decide +kernel) (by decide +kernel) rfl) ?_
  refine And.intro (by decide +kernel) ?_
  refine And.intro (vp_in_iff.mpr (by decide +kernel)) ?_
  refine nm_r (e' := 0) (by decide +kernel) ?_
  refine br_f (by decide +kernel) ?_
  refine ux_slotFor_4 (by decide +kernel) ?_
  refine And.intro (by decide +kernel) ?_
  refine And.intro (vp_in_iff.mpr (by decide +kernel)) ?_
  refine nm_r (ux_up (l' := [1037, 39457, 48, 0, 77, 0, 0, 0]) (k' := 4) (v' := 77) (by decide +kernel) (by decide +kernel) rfl) ?_
  refine And.intro (vp_in_iff.mpr (by decide +kernel)) ?_
  refine nm_r (ux_up (l' := [1, 1]) (k' := 1) (v' := 1) (by decide +kernel) (by decide +kernel) rfl) ?_
  exact hp
theorem ux_writeFile_1 {post : Int32 → St2 → Prop} {p0 : Int32} {p1 : Int32} (h_p0 : p0 = 0) (h_p1 : p1 = 77) (hp : post 1 (1, 2, 1, (-1), (-1), 3, 0, (ux_l [0, 0, 0, 0]), (ux_l [(-1), 0, (-1)]), (ux_l [1, 1]), (ux_l [1037, 39457, 48, 0, 77, 0, 0, 0]), (ux_l [2, 1]), (ux_l [1, 1]), (ux_l [0, 0, 0, 0, 0, 0]), (ux_l [0, 1]), (ux_l [0, 1]), (ux_l [3]), (ux_l [1]), (ux_l [0, 0]), (ux_l [1]), (ux_l [1]), (ux_l [1]), (ux_l [1]), (fun _ => 0), (fun _ => 0), (fun _ => 0), (fun _ => 0), (fun _ => 0), (ux_l [1]), (ux_l [(-1), (-1), (-1), (-1), (-1)]), (ux_l [3]), (ux_l [3]), (ux_l [1037, 39457, 48]), (ux_l [0, 77, 0, 0]), (ux_l [0]), (ux_l [1, 0, 0, 0]), (ux_l [(-1)]), (fun _ => 0))) : wpX_writeFile post (0, 1, 1, (-1), (-1), 3, 0, (ux_l [0, 0, 0, 0]), (ux_l [(-1), (-1), (-1)]), (ux_l [1]), (ux_l [1037, 39457, 48, 0]), (ux_l [2, 1]), (ux_l [1, 0]), (ux_l [0, 0, 0, 0, 0, 0]), (ux_l [0, 1]), (ux_l [0, 1]), (ux_l [3]), (ux_l [1]), (ux_l [0, 0]), (ux_l [1]), (ux_l [1]), (ux_l [0]), (ux_l [1]), (fun _ => 0), (fun _ => 0), (fun _ => 0), (fun _ => 0), (fun _ => 0), (ux_l [1]), (ux_l [(-1), (-1), (-1), (-1), (-1)]), (ux_l [3]), (ux_l [3]), (ux_l [1037, 39457, 48]), (ux_l [0, 77, 0, 0]), (ux_l [0]), (ux_l [1, 0, 0, 0]), (ux_l [(-1)]), (fun _ => 0)) p0 p1 := by
  subst h_p0
  subst h_p1
  refine And.intro (vp_in_iff.mpr (by decide +kernel)) ?_
  refine nm_r (e' := 1) (by decide +kernel) ?_
  refine And.intro (vp_in_iff.mpr (by decide +kernel)) ?_
  refine nm_r (e' := 0) (by decide +kernel) ?_
  refine And.intro (vp_in_iff.mpr (by decide +kernel)) ?_
  refine br_f (by decide +kernel) ?_
  refine And.intro (vp_in_iff.mpr (by decide +kernel)) ?_
  refine br_f (by decide +kernel) ?_
  refine br_t (by decide +kernel) ?_
  refine ux_putWord_4 (by decide +kernel) (by decide +kernel) (by decide +kernel) ?_
  refine And.intro (vp_in_iff.mpr (by decide +kernel)) ?_
  refine And.intro (vp_in_iff.mpr (by decide +kernel)) ?_
  refine nm_r (ux_up (l' := [1]) (k' := 0) (v' := 1) (by decide +kernel) (by decide +kernel) rfl) ?_
  exact hp
theorem ux_write_1 {post : St2 → Prop} {p0 : Int32} {p1 : Int32} {p2 : Int32} (h_p0 : p0 = 0) (h_p1 : p1 = 77) (h_p2 : p2 = 0) (hp : post (1, 2, 1, (-1), (-1), 3, 0, (ux_l [0, 0, 0, 0]), (ux_l [(-1), 0, (-1)]), (ux_l [1, 1]), (ux_l [1037, 39457, 48, 0, 77, 0, 0, 0]), (ux_l [2, 1]), (ux_l [1, 1]), (ux_l [0, 0, 0, 0, 0, 0]), (ux_l [0, 1]), (ux_l [0, 1]), (ux_l [3]), (ux_l [1]), (ux_l [0, 0]), (ux_l [1]), (ux_l [1]), (ux_l [1]), (ux_l [1]), (fun _ => 0), (fun _ => 0), (fun _ => 0), (fun _ => 0), (fun _ => 0), (ux_l [1]), (ux_l [(-1), (-1), (-1), (-1), (-1)]), (ux_l [3]), (ux_l [3]), (ux_l [1037, 39457, 48]), (ux_l [0, 77, 0, 1]), (ux_l [0]), (ux_l [1, 0, 0, 0]), (ux_l [(-1)]), (fun _ => 0))) : wpX_write post (0, 1, 1, (-1), (-1), 3, 0, (ux_l [0, 0, 0, 0]), (ux_l [(-1), (-1), (-1)]), (ux_l [1]), (ux_l [1037, 39457, 48, 0]), (ux_l [2, 1]), (ux_l [1, 0]), (ux_l [0, 0, 0, 0, 0, 0]), (ux_l [0, 1]), (ux_l [0, 1]), (ux_l [3]), (ux_l [1]), (ux_l [0, 0]), (ux_l [1]), (ux_l [1]), (ux_l [0]), (ux_l [1]), (fun _ => 0), (fun _ => 0), (fun _ => 0), (fun _ => 0), (fun _ => 0), (ux_l [1]), (ux_l [(-1), (-1), (-1), (-1), (-1)]), (ux_l [3]), (ux_l [3]), (ux_l [1037, 39457, 48]), (ux_l [0, 77, 0, 0]), (ux_l [0]), (ux_l [1, 0, 0, 0]), (ux_l [(-1)]), (fun _ => 0)) p0 p1 p2 := by
  subst h_p0
  subst h_p1
  subst h_p2
  refine br_f (by decide +kernel) ?_
  refine br_t (by decide +kernel) ?_
  refine And.intro (vp_in_iff.mpr (by decide +kernel)) ?_
  refine br_f (by decide +kernel) ?_
  refine br_f (by decide +kernel) ?_
  refine br_t (by decide +kernel) ?_
  refine br_f (by decide +kernel) ?_
  refine ux_writeFile_1 (by decide +kernel) (by decide +kernel) ?_
  refine br_f (by decide +kernel) ?_
  refine And.intro (vp_in_iff.mpr (by decide +kernel)) ?_
  refine nm_r (ux_up (l' := [0, 77, 0, 1]) (k' := 3) (v' := 1) (by decide +kernel) (by decide +kernel) rfl) ?_
  exact hp
theorem ux_execute_3 {post : St2 → Prop} {p0 : Int32} {p1 : Int32} (h_p0 : p0 = 0) (h_p1 : p1 = 48) (hp : post (1, 2, 1, (-1), (-1), 3, 0, (ux_l [0, 0, 0, 0]), (ux_l [(-1), 0, (-1)]), (ux_l [1, 1]), (ux_l [1037, 39457, 48, 0, 77, 0, 0, 0]), (ux_l [2, 1]), (ux_l [1, 1]), (ux_l [0, 0, 0, 0, 0, 0]), (ux_l [0, 1]), (ux_l [0, 1]), (ux_l [3]), (ux_l [1]), (ux_l [0, 0]), (ux_l [1]), (ux_l [1]), (ux_l [1]), (ux_l [1]), (fun _ => 0), (fun _ => 0), (fun _ => 0), (fun _ => 0), (fun _ => 0), (ux_l [1]), (ux_l [(-1), (-1), (-1), (-1), (-1)]), (ux_l [3]), (ux_l [3]), (ux_l [1037, 39457, 48]), (ux_l [0, 77, 0, 1]), (ux_l [0]), (ux_l [1, 0, 0, 0]), (ux_l [(-1)]), (fun _ => 0))) : wpX_execute post (0, 1, 1, (-1), (-1), 3, 0, (ux_l [0, 0, 0, 0]), (ux_l [(-1), (-1), (-1)]), (ux_l [1]), (ux_l [1037, 39457, 48, 0]), (ux_l [2, 1]), (ux_l [1, 0]), (ux_l [0, 0, 0, 0, 0, 0]), (ux_l [0, 1]), (ux_l [0, 1]), (ux_l [3]), (ux_l [1]), (ux_l [0, 0]), (ux_l [1]), (ux_l [1]), (ux_l [0]), (ux_l [1]), (fun _ => 0), (fun _ => 0), (fun _ => 0), (fun _ => 0), (fun _ => 0), (ux_l [1]), (ux_l [(-1), (-1), (-1), (-1), (-1)]), (ux_l [2]), (ux_l [3]), (ux_l [1037, 39457, 48]), (ux_l [0, 77, 0, 0]), (ux_l [0]), (ux_l [1, 0, 0, 0]), (ux_l [(-1)]), (fun _ => 0)) p0 p1 := by
  subst h_p0
  subst h_p1
  refine nm_r (e' := 16) (by decide +kernel) ?_
  refine nm_r (e' := 1) (by decide +kernel) ?_
  refine nm_r (e' := 0) (by decide +kernel) ?_
  refine nm_r (e' := 0) (by decide +kernel) ?_
  refine And.intro (vp_in_iff.mpr (by decide +kernel)) ?_
  refine nm_r (e' := 77) (by decide +kernel) ?_
  refine And.intro (vp_in_iff.mpr (by decide +kernel)) ?_
  refine nm_r (e' := 0) (by decide +kernel) ?_
  refine And.intro (vp_in_iff.mpr (by decide +kernel)) ?_
  refine And.intro (vp_in_iff.mpr (by decide +kernel)) ?_
  refine nm_r (ux_up (l' := [3]) (k' := 0) (v' := 3) (by decide +kernel) (by decide +kernel) rfl) ?_
  refine br_f (by decide +kernel) ?_
  refine br_t (by decide +kernel) ?_
  refine br_t (by decide +kernel) ?_
  refine br_f (by decide +kernel) ?_
  refine br_f (by decide +kernel) ?_
  refine br_f (by decide +kernel) ?_
  refine br_t (by decide +kernel) ?_
  refine ux_write_1 (by decide +kernel) (by decide +kernel) (by decide +kernel) ?_
  exact hp
theorem ux_work_1 {post : St2 → Prop} {p0 : Int32} (h_p0 : p0 = 0) (hp : post (1, 2, 1, (-1), (-1), 3, 0, (ux_l [0, 0, 0, 0]), (ux_l [(-1), 0, (-1)]), (ux_l [1, 1]), (ux_l [1037, 39457, 48, 0, 77, 0, 0, 0]), (ux_l [2, 1]), (ux_l [1, 1]), (ux_l [0, 0, 0, 0, 0, 0]), (ux_l [0, 1]), (ux_l [0, 1]), (ux_l [3]), (ux_l [1]), (ux_l [0, 0]), (ux_l [1]), (ux_l [1]), (ux_l [1]), (ux_l [1]), (fun _ => 0), (fun _ => 0), (fun _ => 0), (fun _ => 0), (fun _ => 0), (ux_l [1]), (ux_l [(-1), (-1), (-1), (-1), (-1)]), (ux_l [3]), (ux_l [3]), (ux_l [1037, 39457, 48]), (ux_l [0, 77, 0, 1]), (ux_l [0]), (ux_l [1, 0, 0, 0]), (ux_l [(-1)]), (fun _ => 0))) : wpX_work post (1, 1, 1, (-1), (-1), 0, 0, (ux_l [0, 0, 0, 0]), (ux_l [0, (-1), (-1)]), (ux_l [1]), (ux_l [1037, 39457, 48, 0]), (ux_l [2, 1]), (ux_l [1, 3]), (ux_l [0, 0, 0, 0, 0, 0]), (ux_l [0, 1]), (ux_l [0, 0]), (ux_l [3]), (ux_l [1]), (ux_l [0, 0]), (fun _ => 0), (fun _ => 0), (fun _ => 0), (fun _ => 0), (fun _ => 0), (fun _ => 0), (fun _ => 0), (fun _ => 0), (fun _ => 0), (ux_l [1]), (ux_l [(-1), (-1), (-1), (-1), (-1)]), (ux_l [0]), (ux_l [3]), (ux_l [1037, 39457, 48]), (ux_l [3, 0, 0, 0]), (ux_l [0]), (ux_l [0, 0, 0, 0]), (ux_l [(-1)]), (fun _ => 0)) p0 := by
  subst h_p0
  refine Exists.intro 24 ?_
  refine br_f (by decide +kernel) ?_
  refine br_f (by decide +kernel) ?_
  refine And.intro (vp_in_iff.mpr (by decide +kernel)) ?_
  refine nm_r (e' := 0) (by decide +kernel) ?_
  refine br_f (by decide +kernel) ?_
  refine And.intro (vp_in_iff.mpr (by decide +kernel)) ?_
  refine br_t (by decide +kernel) ?_
  refine And.intro (vp_in_iff.mpr (by decide +kernel)) ?_
  refine And.intro (vp_in_iff.mpr (by decide +kernel)) ?_
  refine nm_r (e' := 1037) (by decide +kernel) ?_
  refine nm_r (e' := 13) (by decide +kernel) ?_
  refine br_f (by decide +kernel) ?_
  refine br_f (by decide +kernel) ?_
  refine br_f (by decide +kernel) ?_
  refine br_t (by decide +kernel) ?_
  refine nm_r (e' := 1) (by decide +kernel) ?_
  refine And.intro (vp_in_iff.mpr (by decide +kernel)) ?_
  refine nm_r (e' := 1037) (by decide +kernel) ?_
  refine ux_execute_1 (by decide +kernel) (by decide +kernel) ?_
  refine And.intro (vp_in_iff.mpr (by decide +kernel)) ?_
  refine br_t (by decide +kernel) ?_
  refine br_f (by decide +kernel) ?_
  refine nm_r (e' := 1) (by decide +kernel) ?_
  refine br_f (by decide +kernel) ?_
  refine br_f (by decide +kernel) ?_
  refine And.intro (vp_in_iff.mpr (by decide +kernel)) ?_
  refine nm_r (e' := 1) (by decide +kernel) ?_
  refine br_f (by decide +kernel) ?_
  refine And.intro (vp_in_iff.mpr (by decide +kernel)) ?_
  refine br_t (by decide +kernel) ?_
  refine And.intro (vp_in_iff.mpr (by decide +kernel)) ?_
  refine And.intro (vp_in_iff.mpr (by decide +kernel)) ?_
  refine nm_r (e' := 39457) (by decide +kernel) ?_
  refine nm_r (e' := 1) (by decide +kernel) ?_
  refine br_f (by decide +kernel) ?_
  refine br_f (by decide +kernel) ?_
  refine br_f (by decide +kernel) ?_
  refine br_t (by decide +kernel) ?_
  refine nm_r (e' := 2) (by decide +kernel) ?_
  refine And.intro (vp_in_iff.mpr (by decide +kernel)) ?_
  refine nm_r (e' := 39457) (by decide +kernel) ?_
  refine ux_execute_2 (by decide +kernel) (by decide +kernel) ?_
  refine And.intro (vp_in_iff.mpr (by decide +kernel)) ?_
  refine br_t (by decide +kernel) ?_
  refine br_f (by decide +kernel) ?_
  refine nm_r (e' := 2) (by decide +kernel) ?_
  refine br_f (by decide +kernel) ?_
  refine br_f (by decide +kernel) ?_
  refine And.intro (vp_in_iff.mpr (by decide +kernel)) ?_
  refine nm_r (e' := 2) (by decide +kernel) ?_
  refine br_f (by decide +kernel) ?_
  refine And.intro (vp_in_iff.mpr (by decide +kernel)) ?_
  refine br_t (by decide +kernel) ?_
  refine And.intro (vp_in_iff.mpr (by decide +kernel)) ?_
  refine And.intro (vp_in_iff.mpr (by decide +kernel)) ?_
  refine nm_r (e' := 48) (by decide +kernel) ?_
  refine nm_r (e' := 16) (by decide +kernel) ?_
  refine br_f (by decide +kernel) ?_
  refine br_f (by decide +kernel) ?_
  refine br_t (by decide +kernel) ?_
  refine And.intro (vp_in_iff.mpr (by decide +kernel)) ?_
  refine br_f (by decide +kernel) ?_
  refine br_t (by decide +kernel) ?_
  refine And.intro (vp_in_iff.mpr (by decide +kernel)) ?_
  refine br_t (by decide +kernel) ?_
  refine br_t (by decide +kernel) ?_
  refine nm_r (e' := 3) (by decide +kernel) ?_
  refine And.intro (vp_in_iff.mpr (by decide +kernel)) ?_
  refine nm_r (e' := 48) (by decide +kernel) ?_
  refine ux_execute_3 (by decide +kernel) (by decide +kernel) ?_
  refine And.intro (vp_in_iff.mpr (by decide +kernel)) ?_
  refine br_t (by decide +kernel) ?_
  refine br_f (by decide +kernel) ?_
  refine nm_r (e' := 3) (by decide +kernel) ?_
  refine br_t (by decide +kernel) ?_
  exact hp
theorem ux_enqueue_2 {post : St2 → Prop} {p0 : Int32} (h_p0 : p0 = 0) (hp : post (1, 2, 1, 0, 0, 3, 0, (ux_l [0, 0, 0, 0]), (ux_l [(-1), 0, (-1)]), (ux_l [1, 1]), (ux_l [1037, 39457, 48, 0, 77, 0, 0, 0]), (ux_l [2, 1]), (ux_l [1, 1]), (ux_l [0, 0, 0, 0, 0, 0]), (ux_l [0, 1]), (ux_l [0, 1]), (ux_l [3]), (ux_l [1]), (ux_l [0, 0]), (ux_l [1]), (ux_l [1]), (ux_l [1]), (ux_l [1]), (fun _ => 0), (fun _ => 0), (fun _ => 0), (fun _ => 0), (fun _ => 0), (ux_l [1]), (ux_l [(-1), (-1), (-1), (-1), (-1)]), (ux_l [3]), (ux_l [3]), (ux_l [1037, 39457, 48]), (ux_l [0, 77, 0, 1]), (ux_l [0]), (ux_l [1, 0, 0, 0]), (ux_l [(-1)]), (fun _ => 0))) : wpX_enqueue post (1, 2, 1, (-1), (-1), 3, 0, (ux_l [0, 0, 0, 0]), (ux_l [(-1), 0, (-1)]), (ux_l [1, 1]), (ux_l [1037, 39457, 48, 0, 77, 0, 0, 0]), (ux_l [2, 1]), (ux_l [1, 1]), (ux_l [0, 0, 0, 0, 0, 0]), (ux_l [0, 1]), (ux_l [0, 1]), (ux_l [3]), (ux_l [1]), (ux_l [0, 0]), (ux_l [1]), (ux_l [1]), (ux_l [1]), (ux_l [1]), (fun _ => 0), (fun _ => 0), (fun _ => 0), (fun _ => 0), (fun _ => 0), (ux_l [1]), (ux_l [(-1), (-1), (-1), (-1), (-1)]), (ux_l [3]), (ux_l [3]), (ux_l [1037, 39457, 48]), (ux_l [0, 77, 0, 1]), (ux_l [0]), (ux_l [1, 0, 0, 0]), (ux_l [(-1)]), (fun _ => 0)) p0 := by
  subst h_p0
  refine And.intro (vp_in_iff.mpr (by decide +kernel)) ?_
  refine nm_r (ux_up (l' := [(-1)]) (k' := 0) (v' := (-1)) (by decide +kernel) (by decide +kernel) rfl) ?_
  refine br_t (by decide +kernel) ?_
  exact hp
theorem ux_turn_1 {post : Int32 → St2 → Prop} (hp : post 1 (1, 2, 1, 0, 0, 3, 0, (ux_l [0, 0, 0, 0]), (ux_l [(-1), 0, (-1)]), (ux_l [1, 1]), (ux_l [1037, 39457, 48, 0, 77, 0, 0, 0]), (ux_l [2, 1]), (ux_l [1, 1]), (ux_l [0, 0, 0, 0, 0, 0]), (ux_l [0, 1]), (ux_l [0, 1]), (ux_l [3]), (ux_l [1]), (ux_l [0, 0]), (ux_l [1]), (ux_l [1]), (ux_l [1]), (ux_l [1]), (fun _ => 0), (fun _ => 0), (fun _ => 0), (fun _ => 0), (fun _ => 0), (ux_l [1]), (ux_l [(-1), (-1), (-1), (-1), (-1)]), (ux_l [3]), (ux_l [3]), (ux_l [1037, 39457, 48]), (ux_l [0, 77, 0, 1]), (ux_l [0]), (ux_l [1, 0, 0, 0]), (ux_l [(-1)]), (fun _ => 0))) : wpX_turn post (1, 1, 1, 0, 0, 0, 0, (ux_l [0, 0, 0, 0]), (ux_l [0, (-1), (-1)]), (ux_l [1]), (ux_l [1037, 39457, 48, 0]), (ux_l [2, 1]), (ux_l [1, 3]), (ux_l [0, 0, 0, 0, 0, 0]), (ux_l [0, 1]), (ux_l [0, 0]), (ux_l [3]), (ux_l [1]), (ux_l [0, 0]), (fun _ => 0), (fun _ => 0), (fun _ => 0), (fun _ => 0), (fun _ => 0), (fun _ => 0), (fun _ => 0), (fun _ => 0), (fun _ => 0), (ux_l [1]), (ux_l [(-1), (-1), (-1), (-1), (-1)]), (ux_l [0]), (ux_l [3]), (ux_l [1037, 39457, 48]), (ux_l [3, 0, 0, 0]), (ux_l [0]), (ux_l [0, 0, 0, 0]), (ux_l [(-1)]), (fun _ => 0)) := by
  refine Exists.intro 24 ?_
  refine br_f (by decide +kernel) ?_
  refine And.intro (vp_in_iff.mpr (by decide +kernel)) ?_
  refine br_f (by decide +kernel) ?_
  refine nm_r (e' := 1) (by decide +kernel) ?_
  refine br_f (by decide +kernel) ?_
  refine And.intro (vp_in_iff.mpr (by decide +kernel)) ?_
  refine br_f (by decide +kernel) ?_
  refine nm_r (e' := 2) (by decide +kernel) ?_
  refine br_f (by decide +kernel) ?_
  refine And.intro (vp_in_iff.mpr (by decide +kernel)) ?_
  refine br_f (by decide +kernel) ?_
  refine nm_r (e' := 3) (by decide +kernel) ?_
  refine br_f (by decide +kernel) ?_
  refine And.intro (vp_in_iff.mpr (by decide +kernel)) ?_
  refine br_f (by decide +kernel) ?_
  refine nm_r (e' := 4) (by decide +kernel) ?_
  refine br_f (by decide +kernel) ?_
  refine And.intro (vp_in_iff.mpr (by decide +kernel)) ?_
  refine br_f (by decide +kernel) ?_
  refine nm_r (e' := 5) (by decide +kernel) ?_
  refine br_t (by decide +kernel) ?_
  refine ux_dequeue_1  ?_
  refine br_t (by decide +kernel) ?_
  refine ux_work_1 (by decide +kernel) ?_
  refine And.intro (vp_in_iff.mpr (by decide +kernel)) ?_
  refine br_t (by decide +kernel) ?_
  refine ux_enqueue_2 (by decide +kernel) ?_
  exact hp
theorem ux_run_1 {post : Int32 → St2 → Prop} {p0 : Int32} (h_p0 : p0 = 1) (hp : post 1 (1, 2, 1, 0, 0, 3, 0, (ux_l [0, 0, 0, 0]), (ux_l [(-1), 0, (-1)]), (ux_l [1, 1]), (ux_l [1037, 39457, 48, 0, 77, 0, 0, 0]), (ux_l [2, 1]), (ux_l [1, 1]), (ux_l [0, 0, 0, 0, 0, 0]), (ux_l [0, 1]), (ux_l [0, 1]), (ux_l [3]), (ux_l [1]), (ux_l [0, 0]), (ux_l [1]), (ux_l [1]), (ux_l [1]), (ux_l [1]), (fun _ => 0), (fun _ => 0), (fun _ => 0), (fun _ => 0), (fun _ => 0), (ux_l [1]), (ux_l [(-1), (-1), (-1), (-1), (-1)]), (ux_l [3]), (ux_l [3]), (ux_l [1037, 39457, 48]), (ux_l [0, 77, 0, 1]), (ux_l [0]), (ux_l [1, 0, 0, 0]), (ux_l [(-1)]), (fun _ => 0))) : wpX_run post (1, 1, 1, 0, 0, 0, 0, (ux_l [0, 0, 0, 0]), (ux_l [0, (-1), (-1)]), (ux_l [1]), (ux_l [1037, 39457, 48, 0]), (ux_l [2, 1]), (ux_l [1, 3]), (ux_l [0, 0, 0, 0, 0, 0]), (ux_l [0, 1]), (ux_l [0, 0]), (ux_l [3]), (ux_l [1]), (ux_l [0, 0]), (fun _ => 0), (fun _ => 0), (fun _ => 0), (fun _ => 0), (fun _ => 0), (fun _ => 0), (fun _ => 0), (fun _ => 0), (fun _ => 0), (ux_l [1]), (ux_l [(-1), (-1), (-1), (-1), (-1)]), (ux_l [0]), (ux_l [3]), (ux_l [1037, 39457, 48]), (ux_l [3, 0, 0, 0]), (ux_l [0]), (ux_l [0, 0, 0, 0]), (ux_l [(-1)]), (fun _ => 0)) p0 := by
  subst h_p0
  refine br_t (by decide +kernel) ?_
  refine br_t (by decide +kernel) ?_
  refine Exists.intro 24 ?_
  refine br_f (by decide +kernel) ?_
  refine br_f (by decide +kernel) ?_
  refine ux_turn_1  ?_
  refine br_f (by decide +kernel) ?_
  refine nm_r (e' := 1) (by decide +kernel) ?_
  refine br_t (by decide +kernel) ?_
  exact ek_v (P := fun r => post r (1, 2, 1, 0, 0, 3, 0, (ux_l [0, 0, 0, 0]), (ux_l [(-1), 0, (-1)]), (ux_l [1, 1]), (ux_l [1037, 39457, 48, 0, 77, 0, 0, 0]), (ux_l [2, 1]), (ux_l [1, 1]), (ux_l [0, 0, 0, 0, 0, 0]), (ux_l [0, 1]), (ux_l [0, 1]), (ux_l [3]), (ux_l [1]), (ux_l [0, 0]), (ux_l [1]), (ux_l [1]), (ux_l [1]), (ux_l [1]), (fun _ => 0), (fun _ => 0), (fun _ => 0), (fun _ => 0), (fun _ => 0), (ux_l [1]), (ux_l [(-1), (-1), (-1), (-1), (-1)]), (ux_l [3]), (ux_l [3]), (ux_l [1037, 39457, 48]), (ux_l [0, 77, 0, 1]), (ux_l [0]), (ux_l [1, 0, 0, 0]), (ux_l [(-1)]), (fun _ => 0))) (by decide +kernel) hp
theorem ux_kind_1 {post : Int32 → Prop} {p0 : Int32} (h_p0 : p0 = 2) (hp : post 0) : wpX_kind post (1, 2, 1, 0, 0, 3, 0, (ux_l [0, 0, 0, 0]), (ux_l [(-1), 0, (-1)]), (ux_l [1, 1]), (ux_l [1037, 39457, 48, 0, 77, 0, 0, 0]), (ux_l [2, 1]), (ux_l [1, 1]), (ux_l [0, 0, 0, 0, 0, 0]), (ux_l [0, 1]), (ux_l [0, 1]), (ux_l [3]), (ux_l [1]), (ux_l [0, 0]), (ux_l [1]), (ux_l [1]), (ux_l [1]), (ux_l [1]), (fun _ => 0), (fun _ => 0), (fun _ => 0), (fun _ => 0), (fun _ => 0), (ux_l [1]), (ux_l [(-1), (-1), (-1), (-1), (-1)]), (ux_l [3]), (ux_l [3]), (ux_l [1037, 39457, 48]), (ux_l [0, 77, 0, 1]), (ux_l [0]), (ux_l [1, 0, 0, 0]), (ux_l [(-1)]), (fun _ => 0)) p0 := by
  subst h_p0
  refine br_f (by decide +kernel) ?_
  refine br_f (by decide +kernel) ?_
  refine br_f (by decide +kernel) ?_
  refine And.intro (vp_in_iff.mpr (by decide +kernel)) ?_
  exact ek_v (P := fun r => post r ) (by decide +kernel) hp
theorem ux_word_1 {post : Int32 → St2 → Prop} {p0 : Int32} {p1 : Int32} (h_p0 : p0 = 2) (h_p1 : p1 = 0) (hp : post 0 (1, 2, 1, 0, 0, 3, 0, (ux_l [0, 0, 0, 0]), (ux_l [(-1), 0, (-1)]), (ux_l [1, 1]), (ux_l [1037, 39457, 48, 0, 77, 0, 0, 0]), (ux_l [2, 1]), (ux_l [1, 1]), (ux_l [0, 0, 0, 0, 0, 0]), (ux_l [0, 1]), (ux_l [0, 1]), (ux_l [3]), (ux_l [1]), (ux_l [0, 0]), (ux_l [1]), (ux_l [1]), (ux_l [1]), (ux_l [1]), (fun _ => 0), (fun _ => 0), (fun _ => 0), (fun _ => 0), (fun _ => 0), (ux_l [1]), (ux_l [(-1), (-1), (-1), (-1), (-1)]), (ux_l [3]), (ux_l [3]), (ux_l [1037, 39457, 48]), (ux_l [0, 77, 0, 1]), (ux_l [0]), (ux_l [1, 0, 0, 0]), (ux_l [(-1)]), (fun _ => 0))) : wpX_word post (1, 2, 1, 0, 0, 3, 0, (ux_l [0, 0, 0, 0]), (ux_l [(-1), 0, (-1)]), (ux_l [1, 1]), (ux_l [1037, 39457, 48, 0, 77, 0, 0, 0]), (ux_l [2, 1]), (ux_l [1, 1]), (ux_l [0, 0, 0, 0, 0, 0]), (ux_l [0, 1]), (ux_l [0, 1]), (ux_l [3]), (ux_l [1]), (ux_l [0, 0]), (ux_l [1]), (ux_l [1]), (ux_l [1]), (ux_l [1]), (fun _ => 0), (fun _ => 0), (fun _ => 0), (fun _ => 0), (fun _ => 0), (ux_l [1]), (ux_l [(-1), (-1), (-1), (-1), (-1)]), (ux_l [3]), (ux_l [3]), (ux_l [1037, 39457, 48]), (ux_l [0, 77, 0, 1]), (ux_l [0]), (ux_l [1, 0, 0, 0]), (ux_l [(-1)]), (fun _ => 0)) p0 p1 := by
  subst h_p0
  subst h_p1
  refine br_f (by decide +kernel) ?_
  refine br_f (by decide +kernel) ?_
  refine br_f (by decide +kernel) ?_
  refine And.intro (vp_in_iff.mpr (by decide +kernel)) ?_
  refine br_f (by decide +kernel) ?_
  exact hp
theorem ux_descriptor_1 {post : Int32 → Prop} {p0 : Int32} {p1 : Int32} (h_p0 : p0 = 0) (h_p1 : p1 = 0) (hp : post 17) : wpX_descriptor post (1, 2, 1, 0, 0, 3, 0, (ux_l [0, 0, 0, 0]), (ux_l [(-1), 0, (-1)]), (ux_l [1, 1]), (ux_l [1037, 39457, 48, 0, 77, 0, 0, 0]), (ux_l [2, 1]), (ux_l [1, 1]), (ux_l [0, 0, 0, 0, 0, 0]), (ux_l [0, 1]), (ux_l [0, 1]), (ux_l [3]), (ux_l [1]), (ux_l [0, 0]), (ux_l [1]), (ux_l [1]), (ux_l [1]), (ux_l [1]), (fun _ => 0), (fun _ => 0), (fun _ => 0), (fun _ => 0), (fun _ => 0), (ux_l [1]), (ux_l [(-1), (-1), (-1), (-1), (-1)]), (ux_l [3]), (ux_l [3]), (ux_l [1037, 39457, 48]), (ux_l [0, 77, 0, 1]), (ux_l [0]), (ux_l [1, 0, 0, 0]), (ux_l [(-1)]), (fun _ => 0)) p0 p1 := by
  subst h_p0
  subst h_p1
  refine br_f (by decide +kernel) ?_
  refine br_f (by decide +kernel) ?_
  refine br_f (by decide +kernel) ?_
  refine And.intro (vp_in_iff.mpr (by decide +kernel)) ?_
  refine br_t (by decide +kernel) ?_
  refine br_f (by decide +kernel) ?_
  refine br_f (by decide +kernel) ?_
  refine br_t (by decide +kernel) ?_
  refine And.intro (vp_in_iff.mpr (by decide +kernel)) ?_
  refine nm_r (e' := 1) (by decide +kernel) ?_
  refine br_f (by decide +kernel) ?_
  refine br_t (by decide +kernel) ?_
  refine And.intro (vp_in_iff.mpr (by decide +kernel)) ?_
  exact ek_v (P := fun r => post r ) (by decide +kernel) hp
theorem ux_size_1 {post : Int32 → Prop} {p0 : Int32} (h_p0 : p0 = 1) (hp : post 1) : wpX_size post (1, 2, 1, 0, 0, 3, 0, (ux_l [0, 0, 0, 0]), (ux_l [(-1), 0, (-1)]), (ux_l [1, 1]), (ux_l [1037, 39457, 48, 0, 77, 0, 0, 0]), (ux_l [2, 1]), (ux_l [1, 1]), (ux_l [0, 0, 0, 0, 0, 0]), (ux_l [0, 1]), (ux_l [0, 1]), (ux_l [3]), (ux_l [1]), (ux_l [0, 0]), (ux_l [1]), (ux_l [1]), (ux_l [1]), (ux_l [1]), (fun _ => 0), (fun _ => 0), (fun _ => 0), (fun _ => 0), (fun _ => 0), (ux_l [1]), (ux_l [(-1), (-1), (-1), (-1), (-1)]), (ux_l [3]), (ux_l [3]), (ux_l [1037, 39457, 48]), (ux_l [0, 77, 0, 1]), (ux_l [0]), (ux_l [1, 0, 0, 0]), (ux_l [(-1)]), (fun _ => 0)) p0 := by
  subst h_p0
  refine br_f (by decide +kernel) ?_
  refine br_f (by decide +kernel) ?_
  refine br_f (by decide +kernel) ?_
  refine And.intro (vp_in_iff.mpr (by decide +kernel)) ?_
  refine br_f (by decide +kernel) ?_
  refine And.intro (vp_in_iff.mpr (by decide +kernel)) ?_
  exact ek_v (P := fun r => post r ) (by decide +kernel) hp
theorem ux_register_1 {post : Int32 → Prop} {p0 : Int32} {p1 : Int32} (h_p0 : p0 = 0) (h_p1 : p1 = 3) (hp : post 1) : wpX_register post (1, 2, 1, 0, 0, 3, 0, (ux_l [0, 0, 0, 0]), (ux_l [(-1), 0, (-1)]), (ux_l [1, 1]), (ux_l [1037, 39457, 48, 0, 77, 0, 0, 0]), (ux_l [2, 1]), (ux_l [1, 1]), (ux_l [0, 0, 0, 0, 0, 0]), (ux_l [0, 1]), (ux_l [0, 1]), (ux_l [3]), (ux_l [1]), (ux_l [0, 0]), (ux_l [1]), (ux_l [1]), (ux_l [1]), (ux_l [1]), (fun _ => 0), (fun _ => 0), (fun _ => 0), (fun _ => 0), (fun _ => 0), (ux_l [1]), (ux_l [(-1), (-1), (-1), (-1), (-1)]), (ux_l [3]), (ux_l [3]), (ux_l [1037, 39457, 48]), (ux_l [0, 77, 0, 1]), (ux_l [0]), (ux_l [1, 0, 0, 0]), (ux_l [(-1)]), (fun _ => 0)) p0 p1 := by
  subst h_p0
  subst h_p1
  refine br_f (by decide +kernel) ?_
  refine br_f (by decide +kernel) ?_
  refine br_f (by decide +kernel) ?_
  refine And.intro (vp_in_iff.mpr (by decide +kernel)) ?_
  refine br_t (by decide +kernel) ?_
  refine br_f (by decide +kernel) ?_
  refine br_f (by decide +kernel) ?_
  refine br_f (by decide +kernel) ?_
  refine And.intro (vp_in_iff.mpr (by decide +kernel)) ?_
  exact ek_v (P := fun r => post r ) (by decide +kernel) hp
theorem ux_three : wpL_lawOf (fun r _ => r = 1) 320 5120 () 3 := by
  refine br_f (by decide +kernel) ?_
  refine br_f (by decide +kernel) ?_
  refine br_t (by decide +kernel) ?_
  refine And.intro (by decide +kernel) ?_
  refine And.intro (by decide +kernel) ?_
  refine Exists.intro 31 ?_
  refine Exists.intro 680 ?_
  refine And.intro (by decide +kernel) ?_
  refine And.intro (by decide +kernel) ?_
  refine ux_init_1  ?_
  refine ux_file_1 (by decide +kernel) (by decide +kernel) (by decide +kernel) ?_
  refine br_t (by decide +kernel) ?_
  refine ux_file_2 (by decide +kernel) (by decide +kernel) (by decide +kernel) ?_
  refine br_t (by decide +kernel) ?_
  refine ux_file_3 (by decide +kernel) (by decide +kernel) (by decide +kernel) ?_
  refine br_t (by decide +kernel) ?_
  refine ux_spawn_1 (by decide +kernel) (by decide +kernel) ?_
  refine br_t (by decide +kernel) ?_
  refine ux_run_1 (by decide +kernel) ?_
  refine br_t (by decide +kernel) ?_
  refine ux_kind_1 (by decide +kernel) ?_
  refine br_t (by decide +kernel) ?_
  refine br_t (by decide +kernel) ?_
  refine ux_word_1 (by decide +kernel) (by decide +kernel) ?_
  refine br_t (by decide +kernel) ?_
  refine br_t (by decide +kernel) ?_
  refine ux_descriptor_1 (by decide +kernel) (by decide +kernel) ?_
  refine br_t (by decide +kernel) ?_
  refine br_t (by decide +kernel) ?_
  refine br_t (by decide +kernel) ?_
  refine ux_size_1 (by decide +kernel) ?_
  refine br_t (by decide +kernel) ?_
  refine br_t (by decide +kernel) ?_
  refine ux_register_1 (by decide +kernel) (by decide +kernel) ?_
  refine br_t (by decide +kernel) ?_
  refine br_t (by decide +kernel) ?_
  refine br_t (by decide +kernel) ?_
  exact rfl
end
section
theorem ux_slotFor_2_4 {x : Int32} (h0 : ¬ x < 0) (h14 : ¬ 14 < x) (h3 : ¬ x = 3) {post : Int32 → St2 → Prop} {p0 : Int32} (h_p0 : p0 = 0) (hp : post 0 (1, 1, 1, (-1), (-1), 0, 0, (ux_l [0, 0, 0, 0]), (ux_l [0, (-1), (-1)]), (ux_l [1]), (ux_l [1037, 39457, 48, 0]), (ux_l [2, 1]), (ux_l [1, 3]), (ux_l [0, 0, 0, 0, 0, 0]), (ux_l [0, 1]), (ux_l [0, 0]), (ux_l [3]), (ux_l [1]), (ux_l [0, 0]), (fun _ => 0), (fun _ => 0), (fun _ => 0), (fun _ => 0), (fun _ => 0), (fun _ => 0), (fun _ => 0), (fun _ => 0), (fun _ => 0), (fun _ => 0), (ux_l [(-1), (-1), (-1), (-1), (-1)]), (fun _ => 0), (ux_l [3]), (fun _ => 0), (ux_l [x, 0, 0, 0]), (ux_l [0]), (ux_l [0, 0, 0, 0]), (fun _ => 0), (fun _ => 0))) : wpX_slotFor_2 post (1, 1, 1, (-1), (-1), 0, 0, (ux_l [0, 0, 0, 0]), (ux_l [0, (-1), (-1)]), (ux_l [1]), (ux_l [1037, 39457, 48, 0]), (ux_l [2, 1]), (ux_l [1, 3]), (ux_l [0, 0, 0, 0, 0, 0]), (ux_l [0, 1]), (ux_l [0, 0]), (ux_l [3]), (ux_l [1]), (ux_l [0, 0]), (fun _ => 0), (fun _ => 0), (fun _ => 0), (fun _ => 0), (fun _ => 0), (fun _ => 0), (fun _ => 0), (fun _ => 0), (fun _ => 0), (fun _ => 0), (ux_l [(-1), (-1), (-1), (-1), (-1)]), (fun _ => 0), (ux_l [3]), (fun _ => 0), (ux_l [x, 0, 0, 0]), (ux_l [0]), (ux_l [0, 0, 0, 0]), (fun _ => 0), (fun _ => 0)) p0 := by
  subst h_p0
  refine Exists.intro 24 ?_
  refine br_f (by decide +kernel) ?_
  refine And.intro (vp_in_iff.mpr (by decide +kernel)) ?_
  refine br_t (by decide +kernel) ?_
  exact ek_v (P := fun r => post r (1, 1, 1, (-1), (-1), 0, 0, (ux_l [0, 0, 0, 0]), (ux_l [0, (-1), (-1)]), (ux_l [1]), (ux_l [1037, 39457, 48, 0]), (ux_l [2, 1]), (ux_l [1, 3]), (ux_l [0, 0, 0, 0, 0, 0]), (ux_l [0, 1]), (ux_l [0, 0]), (ux_l [3]), (ux_l [1]), (ux_l [0, 0]), (fun _ => 0), (fun _ => 0), (fun _ => 0), (fun _ => 0), (fun _ => 0), (fun _ => 0), (fun _ => 0), (fun _ => 0), (fun _ => 0), (fun _ => 0), (ux_l [(-1), (-1), (-1), (-1), (-1)]), (fun _ => 0), (ux_l [3]), (fun _ => 0), (ux_l [x, 0, 0, 0]), (ux_l [0]), (ux_l [0, 0, 0, 0]), (fun _ => 0), (fun _ => 0))) rfl hp
theorem ux_wordAt_4 {x : Int32} (h0 : ¬ x < 0) (h14 : ¬ 14 < x) (h3 : ¬ x = 3) {post : Int32 → St2 → Prop} {p0 : Int32} {p1 : Int32} (h_p0 : p0 = 1) (h_p1 : p1 = 0) (hp : post 1037 (1, 1, 1, (-1), (-1), 0, 0, (ux_l [0, 0, 0, 0]), (ux_l [0, (-1), (-1)]), (ux_l [1]), (ux_l [1037, 39457, 48, 0]), (ux_l [2, 1]), (ux_l [1, 3]), (ux_l [0, 0, 0, 0, 0, 0]), (ux_l [0, 1]), (ux_l [0, 0]), (ux_l [3]), (ux_l [1]), (ux_l [0, 0]), (fun _ => 0), (fun _ => 0), (fun _ => 0), (fun _ => 0), (fun _ => 0), (fun _ => 0), (fun _ => 0), (fun _ => 0), (fun _ => 0), (fun _ => 0), (ux_l [(-1), (-1), (-1), (-1), (-1)]), (fun _ => 0), (ux_l [3]), (fun _ => 0), (ux_l [x, 0, 0, 0]), (ux_l [0]), (ux_l [0, 0, 0, 0]), (fun _ => 0), (fun _ => 0))) : wpX_wordAt post (1, 1, 1, (-1), (-1), 0, 0, (ux_l [0, 0, 0, 0]), (ux_l [0, (-1), (-1)]), (ux_l [1]), (ux_l [1037, 39457, 48, 0]), (ux_l [2, 1]), (ux_l [1, 3]), (ux_l [0, 0, 0, 0, 0, 0]), (ux_l [0, 1]), (ux_l [0, 0]), (ux_l [3]), (ux_l [1]), (ux_l [0, 0]), (fun _ => 0), (fun _ => 0), (fun _ => 0), (fun _ => 0), (fun _ => 0), (fun _ => 0), (fun _ => 0), (fun _ => 0), (fun _ => 0), (fun _ => 0), (ux_l [(-1), (-1), (-1), (-1), (-1)]), (fun _ => 0), (ux_l [3]), (fun _ => 0), (ux_l [x, 0, 0, 0]), (ux_l [0]), (ux_l [0, 0, 0, 0]), (fun _ => 0), (fun _ => 0)) p0 p1 := by
  subst h_p0
  subst h_p1
  refine And.intro (by decide +kernel) ?_
  refine And.intro (vp_in_iff.mpr (by decide +kernel)) ?_
  refine nm_r (e' := 0) (by decide +kernel) ?_
  refine br_f (by decide +kernel) ?_
  refine ux_slotFor_2_4 h0 h14 h3 (by decide +kernel) ?_
  refine And.intro (by decide +kernel) ?_
  refine And.intro (vp_in_iff.mpr (by decide +kernel)) ?_
  exact ek_v (P := fun r => post r (1, 1, 1, (-1), (-1), 0, 0, (ux_l [0, 0, 0, 0]), (ux_l [0, (-1), (-1)]), (ux_l [1]), (ux_l [1037, 39457, 48, 0]), (ux_l [2, 1]), (ux_l [1, 3]), (ux_l [0, 0, 0, 0, 0, 0]), (ux_l [0, 1]), (ux_l [0, 0]), (ux_l [3]), (ux_l [1]), (ux_l [0, 0]), (fun _ => 0), (fun _ => 0), (fun _ => 0), (fun _ => 0), (fun _ => 0), (fun _ => 0), (fun _ => 0), (fun _ => 0), (fun _ => 0), (fun _ => 0), (ux_l [(-1), (-1), (-1), (-1), (-1)]), (fun _ => 0), (ux_l [3]), (fun _ => 0), (ux_l [x, 0, 0, 0]), (ux_l [0]), (ux_l [0, 0, 0, 0]), (fun _ => 0), (fun _ => 0))) rfl hp
theorem ux_slotFor_2_5 {x : Int32} (h0 : ¬ x < 0) (h14 : ¬ 14 < x) (h3 : ¬ x = 3) {post : Int32 → St2 → Prop} {p0 : Int32} (h_p0 : p0 = 0) (hp : post 0 (1, 1, 1, (-1), (-1), 0, 0, (ux_l [0, 0, 0, 0]), (ux_l [0, (-1), (-1)]), (ux_l [1]), (ux_l [1037, 39457, 48, 0]), (ux_l [2, 1]), (ux_l [1, 3]), (ux_l [0, 0, 0, 0, 0, 0]), (ux_l [0, 1]), (ux_l [0, 0]), (ux_l [3]), (ux_l [1]), (ux_l [0, 0]), (fun _ => 0), (fun _ => 0), (fun _ => 0), (fun _ => 0), (fun _ => 0), (fun _ => 0), (fun _ => 0), (fun _ => 0), (fun _ => 0), (fun _ => 0), (ux_l [(-1), (-1), (-1), (-1), (-1)]), (fun _ => 0), (ux_l [3]), (ux_l [1037]), (ux_l [x, 0, 0, 0]), (ux_l [0]), (ux_l [0, 0, 0, 0]), (fun _ => 0), (fun _ => 0))) : wpX_slotFor_2 post (1, 1, 1, (-1), (-1), 0, 0, (ux_l [0, 0, 0, 0]), (ux_l [0, (-1), (-1)]), (ux_l [1]), (ux_l [1037, 39457, 48, 0]), (ux_l [2, 1]), (ux_l [1, 3]), (ux_l [0, 0, 0, 0, 0, 0]), (ux_l [0, 1]), (ux_l [0, 0]), (ux_l [3]), (ux_l [1]), (ux_l [0, 0]), (fun _ => 0), (fun _ => 0), (fun _ => 0), (fun _ => 0), (fun _ => 0), (fun _ => 0), (fun _ => 0), (fun _ => 0), (fun _ => 0), (fun _ => 0), (ux_l [(-1), (-1), (-1), (-1), (-1)]), (fun _ => 0), (ux_l [3]), (ux_l [1037]), (ux_l [x, 0, 0, 0]), (ux_l [0]), (ux_l [0, 0, 0, 0]), (fun _ => 0), (fun _ => 0)) p0 := by
  subst h_p0
  refine Exists.intro 24 ?_
  refine br_f (by decide +kernel) ?_
  refine And.intro (vp_in_iff.mpr (by decide +kernel)) ?_
  refine br_t (by decide +kernel) ?_
  exact ek_v (P := fun r => post r (1, 1, 1, (-1), (-1), 0, 0, (ux_l [0, 0, 0, 0]), (ux_l [0, (-1), (-1)]), (ux_l [1]), (ux_l [1037, 39457, 48, 0]), (ux_l [2, 1]), (ux_l [1, 3]), (ux_l [0, 0, 0, 0, 0, 0]), (ux_l [0, 1]), (ux_l [0, 0]), (ux_l [3]), (ux_l [1]), (ux_l [0, 0]), (fun _ => 0), (fun _ => 0), (fun _ => 0), (fun _ => 0), (fun _ => 0), (fun _ => 0), (fun _ => 0), (fun _ => 0), (fun _ => 0), (fun _ => 0), (ux_l [(-1), (-1), (-1), (-1), (-1)]), (fun _ => 0), (ux_l [3]), (ux_l [1037]), (ux_l [x, 0, 0, 0]), (ux_l [0]), (ux_l [0, 0, 0, 0]), (fun _ => 0), (fun _ => 0))) rfl hp
theorem ux_wordAt_5 {x : Int32} (h0 : ¬ x < 0) (h14 : ¬ 14 < x) (h3 : ¬ x = 3) {post : Int32 → St2 → Prop} {p0 : Int32} {p1 : Int32} (h_p0 : p0 = 1) (h_p1 : p1 = 1) (hp : post 39457 (1, 1, 1, (-1), (-1), 0, 0, (ux_l [0, 0, 0, 0]), (ux_l [0, (-1), (-1)]), (ux_l [1]), (ux_l [1037, 39457, 48, 0]), (ux_l [2, 1]), (ux_l [1, 3]), (ux_l [0, 0, 0, 0, 0, 0]), (ux_l [0, 1]), (ux_l [0, 0]), (ux_l [3]), (ux_l [1]), (ux_l [0, 0]), (fun _ => 0), (fun _ => 0), (fun _ => 0), (fun _ => 0), (fun _ => 0), (fun _ => 0), (fun _ => 0), (fun _ => 0), (fun _ => 0), (fun _ => 0), (ux_l [(-1), (-1), (-1), (-1), (-1)]), (fun _ => 0), (ux_l [3]), (ux_l [1037]), (ux_l [x, 0, 0, 0]), (ux_l [0]), (ux_l [0, 0, 0, 0]), (fun _ => 0), (fun _ => 0))) : wpX_wordAt post (1, 1, 1, (-1), (-1), 0, 0, (ux_l [0, 0, 0, 0]), (ux_l [0, (-1), (-1)]), (ux_l [1]), (ux_l [1037, 39457, 48, 0]), (ux_l [2, 1]), (ux_l [1, 3]), (ux_l [0, 0, 0, 0, 0, 0]), (ux_l [0, 1]), (ux_l [0, 0]), (ux_l [3]), (ux_l [1]), (ux_l [0, 0]), (fun _ => 0), (fun _ => 0), (fun _ => 0), (fun _ => 0), (fun _ => 0), (fun _ => 0), (fun _ => 0), (fun _ => 0), (fun _ => 0), (fun _ => 0), (ux_l [(-1), (-1), (-1), (-1), (-1)]), (fun _ => 0), (ux_l [3]), (ux_l [1037]), (ux_l [x, 0, 0, 0]), (ux_l [0]), (ux_l [0, 0, 0, 0]), (fun _ => 0), (fun _ => 0)) p0 p1 := by
  subst h_p0
  subst h_p1
  refine And.intro (by decide +kernel) ?_
  refine And.intro (vp_in_iff.mpr (by decide +kernel)) ?_
  refine nm_r (e' := 0) (by decide +kernel) ?_
  refine br_f (by decide +kernel) ?_
  refine ux_slotFor_2_5 h0 h14 h3 (by decide +kernel) ?_
  refine And.intro (by decide +kernel) ?_
  refine And.intro (vp_in_iff.mpr (by decide +kernel)) ?_
  exact ek_v (P := fun r => post r (1, 1, 1, (-1), (-1), 0, 0, (ux_l [0, 0, 0, 0]), (ux_l [0, (-1), (-1)]), (ux_l [1]), (ux_l [1037, 39457, 48, 0]), (ux_l [2, 1]), (ux_l [1, 3]), (ux_l [0, 0, 0, 0, 0, 0]), (ux_l [0, 1]), (ux_l [0, 0]), (ux_l [3]), (ux_l [1]), (ux_l [0, 0]), (fun _ => 0), (fun _ => 0), (fun _ => 0), (fun _ => 0), (fun _ => 0), (fun _ => 0), (fun _ => 0), (fun _ => 0), (fun _ => 0), (fun _ => 0), (ux_l [(-1), (-1), (-1), (-1), (-1)]), (fun _ => 0), (ux_l [3]), (ux_l [1037]), (ux_l [x, 0, 0, 0]), (ux_l [0]), (ux_l [0, 0, 0, 0]), (fun _ => 0), (fun _ => 0))) rfl hp
theorem ux_slotFor_2_6 {x : Int32} (h0 : ¬ x < 0) (h14 : ¬ 14 < x) (h3 : ¬ x = 3) {post : Int32 → St2 → Prop} {p0 : Int32} (h_p0 : p0 = 0) (hp : post 0 (1, 1, 1, (-1), (-1), 0, 0, (ux_l [0, 0, 0, 0]), (ux_l [0, (-1), (-1)]), (ux_l [1]), (ux_l [1037, 39457, 48, 0]), (ux_l [2, 1]), (ux_l [1, 3]), (ux_l [0, 0, 0, 0, 0, 0]), (ux_l [0, 1]), (ux_l [0, 0]), (ux_l [3]), (ux_l [1]), (ux_l [0, 0]), (fun _ => 0), (fun _ => 0), (fun _ => 0), (fun _ => 0), (fun _ => 0), (fun _ => 0), (fun _ => 0), (fun _ => 0), (fun _ => 0), (fun _ => 0), (ux_l [(-1), (-1), (-1), (-1), (-1)]), (fun _ => 0), (ux_l [3]), (ux_l [1037, 39457]), (ux_l [x, 0, 0, 0]), (ux_l [0]), (ux_l [0, 0, 0, 0]), (fun _ => 0), (fun _ => 0))) : wpX_slotFor_2 post (1, 1, 1, (-1), (-1), 0, 0, (ux_l [0, 0, 0, 0]), (ux_l [0, (-1), (-1)]), (ux_l [1]), (ux_l [1037, 39457, 48, 0]), (ux_l [2, 1]), (ux_l [1, 3]), (ux_l [0, 0, 0, 0, 0, 0]), (ux_l [0, 1]), (ux_l [0, 0]), (ux_l [3]), (ux_l [1]), (ux_l [0, 0]), (fun _ => 0), (fun _ => 0), (fun _ => 0), (fun _ => 0), (fun _ => 0), (fun _ => 0), (fun _ => 0), (fun _ => 0), (fun _ => 0), (fun _ => 0), (ux_l [(-1), (-1), (-1), (-1), (-1)]), (fun _ => 0), (ux_l [3]), (ux_l [1037, 39457]), (ux_l [x, 0, 0, 0]), (ux_l [0]), (ux_l [0, 0, 0, 0]), (fun _ => 0), (fun _ => 0)) p0 := by
  subst h_p0
  refine Exists.intro 24 ?_
  refine br_f (by decide +kernel) ?_
  refine And.intro (vp_in_iff.mpr (by decide +kernel)) ?_
  refine br_t (by decide +kernel) ?_
  exact ek_v (P := fun r => post r (1, 1, 1, (-1), (-1), 0, 0, (ux_l [0, 0, 0, 0]), (ux_l [0, (-1), (-1)]), (ux_l [1]), (ux_l [1037, 39457, 48, 0]), (ux_l [2, 1]), (ux_l [1, 3]), (ux_l [0, 0, 0, 0, 0, 0]), (ux_l [0, 1]), (ux_l [0, 0]), (ux_l [3]), (ux_l [1]), (ux_l [0, 0]), (fun _ => 0), (fun _ => 0), (fun _ => 0), (fun _ => 0), (fun _ => 0), (fun _ => 0), (fun _ => 0), (fun _ => 0), (fun _ => 0), (fun _ => 0), (ux_l [(-1), (-1), (-1), (-1), (-1)]), (fun _ => 0), (ux_l [3]), (ux_l [1037, 39457]), (ux_l [x, 0, 0, 0]), (ux_l [0]), (ux_l [0, 0, 0, 0]), (fun _ => 0), (fun _ => 0))) rfl hp
theorem ux_wordAt_6 {x : Int32} (h0 : ¬ x < 0) (h14 : ¬ 14 < x) (h3 : ¬ x = 3) {post : Int32 → St2 → Prop} {p0 : Int32} {p1 : Int32} (h_p0 : p0 = 1) (h_p1 : p1 = 2) (hp : post 48 (1, 1, 1, (-1), (-1), 0, 0, (ux_l [0, 0, 0, 0]), (ux_l [0, (-1), (-1)]), (ux_l [1]), (ux_l [1037, 39457, 48, 0]), (ux_l [2, 1]), (ux_l [1, 3]), (ux_l [0, 0, 0, 0, 0, 0]), (ux_l [0, 1]), (ux_l [0, 0]), (ux_l [3]), (ux_l [1]), (ux_l [0, 0]), (fun _ => 0), (fun _ => 0), (fun _ => 0), (fun _ => 0), (fun _ => 0), (fun _ => 0), (fun _ => 0), (fun _ => 0), (fun _ => 0), (fun _ => 0), (ux_l [(-1), (-1), (-1), (-1), (-1)]), (fun _ => 0), (ux_l [3]), (ux_l [1037, 39457]), (ux_l [x, 0, 0, 0]), (ux_l [0]), (ux_l [0, 0, 0, 0]), (fun _ => 0), (fun _ => 0))) : wpX_wordAt post (1, 1, 1, (-1), (-1), 0, 0, (ux_l [0, 0, 0, 0]), (ux_l [0, (-1), (-1)]), (ux_l [1]), (ux_l [1037, 39457, 48, 0]), (ux_l [2, 1]), (ux_l [1, 3]), (ux_l [0, 0, 0, 0, 0, 0]), (ux_l [0, 1]), (ux_l [0, 0]), (ux_l [3]), (ux_l [1]), (ux_l [0, 0]), (fun _ => 0), (fun _ => 0), (fun _ => 0), (fun _ => 0), (fun _ => 0), (fun _ => 0), (fun _ => 0), (fun _ => 0), (fun _ => 0), (fun _ => 0), (ux_l [(-1), (-1), (-1), (-1), (-1)]), (fun _ => 0), (ux_l [3]), (ux_l [1037, 39457]), (ux_l [x, 0, 0, 0]), (ux_l [0]), (ux_l [0, 0, 0, 0]), (fun _ => 0), (fun _ => 0)) p0 p1 := by
  subst h_p0
  subst h_p1
  refine And.intro (by decide +kernel) ?_
  refine And.intro (vp_in_iff.mpr (by decide +kernel)) ?_
  refine nm_r (e' := 0) (by decide +kernel) ?_
  refine br_f (by decide +kernel) ?_
  refine ux_slotFor_2_6 h0 h14 h3 (by decide +kernel) ?_
  refine And.intro (by decide +kernel) ?_
  refine And.intro (vp_in_iff.mpr (by decide +kernel)) ?_
  exact ek_v (P := fun r => post r (1, 1, 1, (-1), (-1), 0, 0, (ux_l [0, 0, 0, 0]), (ux_l [0, (-1), (-1)]), (ux_l [1]), (ux_l [1037, 39457, 48, 0]), (ux_l [2, 1]), (ux_l [1, 3]), (ux_l [0, 0, 0, 0, 0, 0]), (ux_l [0, 1]), (ux_l [0, 0]), (ux_l [3]), (ux_l [1]), (ux_l [0, 0]), (fun _ => 0), (fun _ => 0), (fun _ => 0), (fun _ => 0), (fun _ => 0), (fun _ => 0), (fun _ => 0), (fun _ => 0), (fun _ => 0), (fun _ => 0), (ux_l [(-1), (-1), (-1), (-1), (-1)]), (fun _ => 0), (ux_l [3]), (ux_l [1037, 39457]), (ux_l [x, 0, 0, 0]), (ux_l [0]), (ux_l [0, 0, 0, 0]), (fun _ => 0), (fun _ => 0))) rfl hp
theorem ux_loadProgram_2 {x : Int32} (h0 : ¬ x < 0) (h14 : ¬ 14 < x) (h3 : ¬ x = 3) {post : St2 → Prop} {p0 : Int32} {p1 : Int32} (h_p0 : p0 = 0) (h_p1 : p1 = 1) (hp : post (1, 1, 1, (-1), (-1), 0, 0, (ux_l [0, 0, 0, 0]), (ux_l [0, (-1), (-1)]), (ux_l [1]), (ux_l [1037, 39457, 48, 0]), (ux_l [2, 1]), (ux_l [1, 3]), (ux_l [0, 0, 0, 0, 0, 0]), (ux_l [0, 1]), (ux_l [0, 0]), (ux_l [3]), (ux_l [1]), (ux_l [0, 0]), (fun _ => 0), (fun _ => 0), (fun _ => 0), (fun _ => 0), (fun _ => 0), (fun _ => 0), (fun _ => 0), (fun _ => 0), (fun _ => 0), (fun _ => 0), (ux_l [(-1), (-1), (-1), (-1), (-1)]), (ux_l [0]), (ux_l [3]), (ux_l [1037, 39457, 48]), (ux_l [x, 0, 0, 0]), (ux_l [0]), (ux_l [0, 0, 0, 0]), (fun _ => 0), (fun _ => 0))) : wpX_loadProgram post (1, 1, 1, (-1), (-1), 0, 0, (ux_l [0, 0, 0, 0]), (ux_l [0, (-1), (-1)]), (ux_l [1]), (ux_l [1037, 39457, 48, 0]), (ux_l [2, 1]), (ux_l [1, 3]), (ux_l [0, 0, 0, 0, 0, 0]), (ux_l [0, 1]), (ux_l [0, 0]), (ux_l [3]), (ux_l [1]), (ux_l [0, 0]), (fun _ => 0), (fun _ => 0), (fun _ => 0), (fun _ => 0), (fun _ => 0), (fun _ => 0), (fun _ => 0), (fun _ => 0), (fun _ => 0), (fun _ => 0), (ux_l [(-1), (-1), (-1), (-1), (-1)]), (fun _ => 0), (fun _ => 0), (fun _ => 0), (ux_l [x, 0, 0, 0]), (ux_l [0]), (ux_l [0, 0, 0, 0]), (fun _ => 0), (fun _ => 0)) p0 p1 := by
  subst h_p0
  subst h_p1
  refine And.intro (vp_in_iff.mpr (by decide +kernel)) ?_
  refine And.intro (vp_in_iff.mpr (by decide +kernel)) ?_
  refine nm_r (ux_up0 (l' := [3]) (k' := 0) (v' := 3) (by decide +kernel) (by decide +kernel) rfl) ?_
  refine Exists.intro 24 ?_
  refine And.intro (vp_in_iff.mpr (by decide +kernel)) ?_
  refine br_f (by decide +kernel) ?_
  refine ux_wordAt_4 h0 h14 h3 (by decide +kernel) (by decide +kernel) ?_
  refine And.intro (vp_in_iff.mpr (by decide +kernel)) ?_
  refine nm_r (ux_up0 (l' := [1037]) (k' := 0) (v' := 1037) (by decide +kernel) (by decide +kernel) rfl) ?_
  refine nm_r (e' := 1) (by decide +kernel) ?_
  refine And.intro (vp_in_iff.mpr (by decide +kernel)) ?_
  refine br_f (by decide +kernel) ?_
  refine ux_wordAt_5 h0 h14 h3 (by decide +kernel) (by decide +kernel) ?_
  refine And.intro (vp_in_iff.mpr (by decide +kernel)) ?_
  refine nm_r (ux_up (l' := [1037, 39457]) (k' := 1) (v' := 39457) (by decide +kernel) (by decide +kernel) rfl) ?_
  refine nm_r (e' := 2) (by decide +kernel) ?_
  refine And.intro (vp_in_iff.mpr (by decide +kernel)) ?_
  refine br_f (by decide +kernel) ?_
  refine ux_wordAt_6 h0 h14 h3 (by decide +kernel) (by decide +kernel) ?_
  refine And.intro (vp_in_iff.mpr (by decide +kernel)) ?_
  refine nm_r (ux_up (l' := [1037, 39457, 48]) (k' := 2) (v' := 48) (by decide +kernel) (by decide +kernel) rfl) ?_
  refine nm_r (e' := 3) (by decide +kernel) ?_
  refine And.intro (vp_in_iff.mpr (by decide +kernel)) ?_
  refine br_t (by decide +kernel) ?_
  refine And.intro (vp_in_iff.mpr (by decide +kernel)) ?_
  refine nm_r (ux_up0 (l' := [0]) (k' := 0) (v' := 0) (by decide +kernel) (by decide +kernel) rfl) ?_
  exact hp
theorem ux_enqueue_3 {x : Int32} (h0 : ¬ x < 0) (h14 : ¬ 14 < x) (h3 : ¬ x = 3) {post : St2 → Prop} {p0 : Int32} (h_p0 : p0 = 0) (hp : post (1, 1, 1, 0, 0, 0, 0, (ux_l [0, 0, 0, 0]), (ux_l [0, (-1), (-1)]), (ux_l [1]), (ux_l [1037, 39457, 48, 0]), (ux_l [2, 1]), (ux_l [1, 3]), (ux_l [0, 0, 0, 0, 0, 0]), (ux_l [0, 1]), (ux_l [0, 0]), (ux_l [3]), (ux_l [1]), (ux_l [0, 0]), (fun _ => 0), (fun _ => 0), (fun _ => 0), (fun _ => 0), (fun _ => 0), (fun _ => 0), (fun _ => 0), (fun _ => 0), (fun _ => 0), (ux_l [1]), (ux_l [(-1), (-1), (-1), (-1), (-1)]), (ux_l [0]), (ux_l [3]), (ux_l [1037, 39457, 48]), (ux_l [x, 0, 0, 0]), (ux_l [0]), (ux_l [0, 0, 0, 0]), (ux_l [(-1)]), (fun _ => 0))) : wpX_enqueue post (1, 1, 1, (-1), (-1), 0, 0, (ux_l [0, 0, 0, 0]), (ux_l [0, (-1), (-1)]), (ux_l [1]), (ux_l [1037, 39457, 48, 0]), (ux_l [2, 1]), (ux_l [1, 3]), (ux_l [0, 0, 0, 0, 0, 0]), (ux_l [0, 1]), (ux_l [0, 0]), (ux_l [3]), (ux_l [1]), (ux_l [0, 0]), (fun _ => 0), (fun _ => 0), (fun _ => 0), (fun _ => 0), (fun _ => 0), (fun _ => 0), (fun _ => 0), (fun _ => 0), (fun _ => 0), (ux_l [1]), (ux_l [(-1), (-1), (-1), (-1), (-1)]), (ux_l [0]), (ux_l [3]), (ux_l [1037, 39457, 48]), (ux_l [x, 0, 0, 0]), (ux_l [0]), (ux_l [0, 0, 0, 0]), (fun _ => 0), (fun _ => 0)) p0 := by
  subst h_p0
  refine And.intro (vp_in_iff.mpr (by decide +kernel)) ?_
  refine nm_r (ux_up0 (l' := [(-1)]) (k' := 0) (v' := (-1)) (by decide +kernel) (by decide +kernel) rfl) ?_
  refine br_t (by decide +kernel) ?_
  exact hp
theorem ux_spawn_2 {x : Int32} (h0 : ¬ x < 0) (h14 : ¬ 14 < x) (h3 : ¬ x = 3) {post : Int32 → St2 → Prop} {p0 : Int32} (h_p0 : p0 = 3) (hp : post 0 (1, 1, 1, 0, 0, 0, 0, (ux_l [0, 0, 0, 0]), (ux_l [0, (-1), (-1)]), (ux_l [1]), (ux_l [1037, 39457, 48, 0]), (ux_l [2, 1]), (ux_l [1, 3]), (ux_l [0, 0, 0, 0, 0, 0]), (ux_l [0, 1]), (ux_l [0, 0]), (ux_l [3]), (ux_l [1]), (ux_l [0, 0]), (fun _ => 0), (fun _ => 0), (fun _ => 0), (fun _ => 0), (fun _ => 0), (fun _ => 0), (fun _ => 0), (fun _ => 0), (fun _ => 0), (ux_l [1]), (ux_l [(-1), (-1), (-1), (-1), (-1)]), (ux_l [0]), (ux_l [3]), (ux_l [1037, 39457, 48]), (ux_l [x, 0, 0, 0]), (ux_l [0]), (ux_l [0, 0, 0, 0]), (ux_l [(-1)]), (fun _ => 0))) : wpX_spawn post (1, 1, 1, (-1), (-1), 0, 0, (ux_l [0, 0, 0, 0]), (ux_l [0, (-1), (-1)]), (ux_l [1]), (ux_l [1037, 39457, 48, 0]), (ux_l [2, 1]), (ux_l [1, 3]), (ux_l [0, 0, 0, 0, 0, 0]), (ux_l [0, 1]), (ux_l [0, 0]), (ux_l [3]), (ux_l [1]), (ux_l [0, 0]), (fun _ => 0), (fun _ => 0), (fun _ => 0), (fun _ => 0), (fun _ => 0), (fun _ => 0), (fun _ => 0), (fun _ => 0), (fun _ => 0), (fun _ => 0), (ux_l [(-1), (-1), (-1), (-1), (-1)]), (fun _ => 0), (fun _ => 0), (fun _ => 0), (fun _ => 0), (fun _ => 0), (fun _ => 0), (fun _ => 0), (fun _ => 0)) p0 x := by
  subst h_p0
  refine Exists.intro 24 ?_
  refine br_f (by decide +kernel) ?_
  refine And.intro (vp_in_iff.mpr (by decide +kernel)) ?_
  refine br_t (by decide +kernel) ?_
  refine br_f (by decide +kernel) ?_
  refine br_f (by decide +kernel) ?_
  refine br_f (by decide +kernel) ?_
  refine nm_r (e' := 0) (by decide +kernel) ?_
  refine Exists.intro 24 ?_
  refine And.intro (vp_in_iff.mpr (by decide +kernel)) ?_
  refine br_f (by decide +kernel) ?_
  refine And.intro (vp_in_iff.mpr (by decide +kernel)) ?_
  refine br_t (by decide +kernel) ?_
  refine br_t (by decide +kernel) ?_
  refine And.intro (vp_in_iff.mpr (by decide +kernel)) ?_
  refine br_f (by decide +kernel) ?_
  refine br_f (by decide +kernel) ?_
  refine And.intro (vp_in_iff.mpr (by decide +kernel)) ?_
  refine br_t (by decide +kernel) ?_
  refine And.intro (vp_in_iff.mpr (by decide +kernel)) ?_
  refine nm_r (ux_up (l' := [(-1), (-1), (-1), (-1), (-1)]) (k' := 0) (v' := (-1)) (by decide +kernel) (by decide +kernel) rfl) ?_
  refine And.intro (vp_in_iff.mpr (by decide +kernel)) ?_
  refine nm_r (ux_up0 (l' := [0]) (k' := 0) (v' := 0) (by decide +kernel) (by decide +kernel) rfl) ?_
  refine nm_r (e' := 0) (by decide +kernel) ?_
  refine Exists.intro 24 ?_
  refine br_f (by decide +kernel) ?_
  refine And.intro (vp_in_iff.mpr (by decide +kernel)) ?_
  refine nm_r (ux_up0 (l' := [0]) (k' := 0) (v' := 0) (by decide +kernel) (by decide +kernel) rfl) ?_
  refine And.intro (vp_in_iff.mpr (by decide +kernel)) ?_
  refine nm_r (ux_up0 (l' := [0]) (k' := 0) (v' := 0) (by decide +kernel) (by decide +kernel) rfl) ?_
  refine nm_r (e' := 1) (by decide +kernel) ?_
  refine br_f (by decide +kernel) ?_
  refine And.intro (vp_in_iff.mpr (by decide +kernel)) ?_
  refine nm_r (ux_up (l' := [0, 0]) (k' := 1) (v' := 0) (by decide +kernel) (by decide +kernel) rfl) ?_
  refine And.intro (vp_in_iff.mpr (by decide +kernel)) ?_
  refine nm_r (ux_up (l' := [0, 0]) (k' := 1) (v' := 0) (by decide +kernel) (by decide +kernel) rfl) ?_
  refine nm_r (e' := 2) (by decide +kernel) ?_
  refine br_f (by decide +kernel) ?_
  refine And.intro (vp_in_iff.mpr (by decide +kernel)) ?_
  refine nm_r (ux_up (l' := [0, 0, 0]) (k' := 2) (v' := 0) (by decide +kernel) (by decide +kernel) rfl) ?_
  refine And.intro (vp_in_iff.mpr (by decide +kernel)) ?_
  refine nm_r (ux_up (l' := [0, 0, 0]) (k' := 2) (v' := 0) (by decide +kernel) (by decide +kernel) rfl) ?_
  refine nm_r (e' := 3) (by decide +kernel) ?_
  refine br_f (by decide +kernel) ?_
  refine And.intro (vp_in_iff.mpr (by decide +kernel)) ?_
  refine nm_r (ux_up (l' := [0, 0, 0, 0]) (k' := 3) (v' := 0) (by decide +kernel) (by decide +kernel) rfl) ?_
  refine And.intro (vp_in_iff.mpr (by decide +kernel)) ?_
  refine nm_r (ux_up (l' := [0, 0, 0, 0]) (k' := 3) (v' := 0) (by decide +kernel) (by decide +kernel) rfl) ?_
  refine nm_r (e' := 4) (by decide +kernel) ?_
  refine br_t (by decide +kernel) ?_
  refine And.intro (vp_in_iff.mpr (by decide +kernel)) ?_
  refine nm_r (ux_up (l' := [x, 0, 0, 0]) (k' := 0) (v' := x) (by decide +kernel) rfl rfl) ?_
  refine ux_loadProgram_2 h0 h14 h3 (by decide +kernel) (by decide +kernel) ?_
  refine And.intro (vp_in_iff.mpr (by decide +kernel)) ?_
  refine nm_r (ux_up0 (l' := [1]) (k' := 0) (v' := 1) (by decide +kernel) (by decide +kernel) rfl) ?_
  refine ux_enqueue_3 h0 h14 h3 (by decide +kernel) ?_
  exact ek_v (P := fun r => post r (1, 1, 1, 0, 0, 0, 0, (ux_l [0, 0, 0, 0]), (ux_l [0, (-1), (-1)]), (ux_l [1]), (ux_l [1037, 39457, 48, 0]), (ux_l [2, 1]), (ux_l [1, 3]), (ux_l [0, 0, 0, 0, 0, 0]), (ux_l [0, 1]), (ux_l [0, 0]), (ux_l [3]), (ux_l [1]), (ux_l [0, 0]), (fun _ => 0), (fun _ => 0), (fun _ => 0), (fun _ => 0), (fun _ => 0), (fun _ => 0), (fun _ => 0), (fun _ => 0), (fun _ => 0), (ux_l [1]), (ux_l [(-1), (-1), (-1), (-1), (-1)]), (ux_l [0]), (ux_l [3]), (ux_l [1037, 39457, 48]), (ux_l [x, 0, 0, 0]), (ux_l [0]), (ux_l [0, 0, 0, 0]), (ux_l [(-1)]), (fun _ => 0))) rfl hp
theorem ux_dequeue_2 {x : Int32} (h0 : ¬ x < 0) (h14 : ¬ 14 < x) (h3 : ¬ x = 3) {post : Int32 → St2 → Prop} (hp : post 0 (1, 1, 1, (-1), (-1), 0, 0, (ux_l [0, 0, 0, 0]), (ux_l [0, (-1), (-1)]), (ux_l [1]), (ux_l [1037, 39457, 48, 0]), (ux_l [2, 1]), (ux_l [1, 3]), (ux_l [0, 0, 0, 0, 0, 0]), (ux_l [0, 1]), (ux_l [0, 0]), (ux_l [3]), (ux_l [1]), (ux_l [0, 0]), (fun _ => 0), (fun _ => 0), (fun _ => 0), (fun _ => 0), (fun _ => 0), (fun _ => 0), (fun _ => 0), (fun _ => 0), (fun _ => 0), (ux_l [1]), (ux_l [(-1), (-1), (-1), (-1), (-1)]), (ux_l [0]), (ux_l [3]), (ux_l [1037, 39457, 48]), (ux_l [x, 0, 0, 0]), (ux_l [0]), (ux_l [0, 0, 0, 0]), (ux_l [(-1)]), (fun _ => 0))) : wpX_dequeue post (1, 1, 1, 0, 0, 0, 0, (ux_l [0, 0, 0, 0]), (ux_l [0, (-1), (-1)]), (ux_l [1]), (ux_l [1037, 39457, 48, 0]), (ux_l [2, 1]), (ux_l [1, 3]), (ux_l [0, 0, 0, 0, 0, 0]), (ux_l [0, 1]), (ux_l [0, 0]), (ux_l [3]), (ux_l [1]), (ux_l [0, 0]), (fun _ => 0), (fun _ => 0), (fun _ => 0), (fun _ => 0), (fun _ => 0), (fun _ => 0), (fun _ => 0), (fun _ => 0), (fun _ => 0), (ux_l [1]), (ux_l [(-1), (-1), (-1), (-1), (-1)]), (ux_l [0]), (ux_l [3]), (ux_l [1037, 39457, 48]), (ux_l [x, 0, 0, 0]), (ux_l [0]), (ux_l [0, 0, 0, 0]), (ux_l [(-1)]), (fun _ => 0)) := by
  refine br_t (by decide +kernel) ?_
  refine And.intro (vp_in_iff.mpr (by decide +kernel)) ?_
  refine nm_r (e' := (-1)) (by decide +kernel) ?_
  refine br_f (by decide +kernel) ?_
  exact ek_v (P := fun r => post r (1, 1, 1, (-1), (-1), 0, 0, (ux_l [0, 0, 0, 0]), (ux_l [0, (-1), (-1)]), (ux_l [1]), (ux_l [1037, 39457, 48, 0]), (ux_l [2, 1]), (ux_l [1, 3]), (ux_l [0, 0, 0, 0, 0, 0]), (ux_l [0, 1]), (ux_l [0, 0]), (ux_l [3]), (ux_l [1]), (ux_l [0, 0]), (fun _ => 0), (fun _ => 0), (fun _ => 0), (fun _ => 0), (fun _ => 0), (fun _ => 0), (fun _ => 0), (fun _ => 0), (fun _ => 0), (ux_l [1]), (ux_l [(-1), (-1), (-1), (-1), (-1)]), (ux_l [0]), (ux_l [3]), (ux_l [1037, 39457, 48]), (ux_l [x, 0, 0, 0]), (ux_l [0]), (ux_l [0, 0, 0, 0]), (ux_l [(-1)]), (fun _ => 0))) rfl hp
theorem ux_enterNew_2 {x : Int32} (h0 : ¬ x < 0) (h14 : ¬ 14 < x) (h3 : ¬ x = 3) {post : Int32 → St2 → Prop} {p0 : Int32} {p2 : Int32} (h_p0 : p0 = 0) (h_p2 : p2 = 1) (hp : post 2 (1, 1, 1, (-1), (-1), 1, 0, (ux_l [0, 0, 0, 0]), (ux_l [0, (-1), (-1)]), (ux_l [1]), (ux_l [1037, 39457, 48, 0]), (ux_l [2, 1, 1]), (ux_l [2, 3, 0]), (ux_l [0, 0, 0, 0, 0, 0]), (ux_l [0, 1, 1]), (ux_l [0, 0, 0]), (ux_l [3, x.toInt8.toInt32]), (ux_l [1, 2]), (ux_l [0, 0, 0]), (fun _ => 0), (fun _ => 0), (fun _ => 0), (fun _ => 0), (fun _ => 0), (fun _ => 0), (fun _ => 0), (fun _ => 0), (fun _ => 0), (ux_l [1]), (ux_l [(-1), (-1), (-1), (-1), (-1)]), (ux_l [1]), (ux_l [3]), (ux_l [1037, 39457, 48]), (ux_l [x, 0, 0, 0]), (ux_l [0]), (ux_l [0, 0, 0, 0]), (ux_l [(-1)]), (fun _ => 0))) : wpX_enterNew post (1, 1, 1, (-1), (-1), 1, 0, (ux_l [0, 0, 0, 0]), (ux_l [0, (-1), (-1)]), (ux_l [1]), (ux_l [1037, 39457, 48, 0]), (ux_l [2, 1]), (ux_l [1, 3]), (ux_l [0, 0, 0, 0, 0, 0]), (ux_l [0, 1]), (ux_l [0, 0]), (ux_l [3]), (ux_l [1]), (ux_l [0, 0]), (fun _ => 0), (fun _ => 0), (fun _ => 0), (fun _ => 0), (fun _ => 0), (fun _ => 0), (fun _ => 0), (fun _ => 0), (fun _ => 0), (ux_l [1]), (ux_l [(-1), (-1), (-1), (-1), (-1)]), (ux_l [1]), (ux_l [3]), (ux_l [1037, 39457, 48]), (ux_l [x, 0, 0, 0]), (ux_l [0]), (ux_l [0, 0, 0, 0]), (ux_l [(-1)]), (fun _ => 0)) p0 x p2 := by
  subst h_p0
  subst h_p2
  refine Exists.intro 24 ?_
  refine br_f (by decide +kernel) ?_
  refine And.intro (vp_in_iff.mpr (by decide +kernel)) ?_
  refine br_f (by decide +kernel) ?_
  refine nm_r (e' := 2) (by decide +kernel) ?_
  refine br_f (by decide +kernel) ?_
  refine And.intro (vp_in_iff.mpr (by decide +kernel)) ?_
  refine br_t (by decide +kernel) ?_
  refine br_f (by decide +kernel) ?_
  refine br_f h0 ?_
  refine br_f (ux_15 h14) ?_
  refine br_f (by decide +kernel) ?_
  refine And.intro (vp_in_iff.mpr (by decide +kernel)) ?_
  refine br_t (by decide +kernel) ?_
  refine And.intro (vp_in_iff.mpr (by decide +kernel)) ?_
  refine nm_r (ux_up (l' := [2, 1, 1]) (k' := 2) (v' := 1) (by decide +kernel) (by decide +kernel) rfl) ?_
  refine And.intro (vp_in_iff.mpr (by decide +kernel)) ?_
  refine nm_r (ux_up (l' := [1, 3, 0]) (k' := 2) (v' := 0) (by decide +kernel) (by decide +kernel) rfl) ?_
  refine And.intro (vp_in_iff.mpr (by decide +kernel)) ?_
  refine nm_r (ux_up (l' := [0, 1, 0]) (k' := 2) (v' := 0) (by decide +kernel) (by decide +kernel) rfl) ?_
  refine And.intro (vp_in_iff.mpr (by decide +kernel)) ?_
  refine nm_r (ux_up (l' := [0, 0, 0]) (k' := 2) (v' := 0) (by decide +kernel) (by decide +kernel) rfl) ?_
  refine And.intro (vp_in_iff.mpr (by decide +kernel)) ?_
  refine nm_r (ux_up (l' := [0, 0, 0]) (k' := 2) (v' := 0) (by decide +kernel) (by decide +kernel) rfl) ?_
  refine And.intro (vp_in_iff.mpr (by decide +kernel)) ?_
  refine nm_r (e' := 1) (by decide +kernel) ?_
  refine And.intro (vp_in_iff.mpr (by decide +kernel)) ?_
  refine nm_r (ux_up (l' := [3, x.toInt8.toInt32]) (k' := 1) (v' := x.toInt8.toInt32) (by decide +kernel) rfl rfl) ?_
  refine And.intro (vp_in_iff.mpr (by decide +kernel)) ?_
  refine nm_r (ux_up (l' := [1, 2]) (k' := 1) (v' := 2) (by decide +kernel) (by decide +kernel) rfl) ?_
  refine And.intro (vp_in_iff.mpr (by decide +kernel)) ?_
  refine And.intro (vp_in_iff.mpr (by decide +kernel)) ?_
  refine nm_r (ux_up (l' := [2, 3, 0]) (k' := 0) (v' := 2) (by decide +kernel) (by decide +kernel) rfl) ?_
  refine And.intro (vp_in_iff.mpr (by decide +kernel)) ?_
  refine And.intro (vp_in_iff.mpr (by decide +kernel)) ?_
  refine nm_r (ux_up (l' := [0, 1, 1]) (k' := 2) (v' := 1) (by decide +kernel) (by decide +kernel) rfl) ?_
  exact ek_v (P := fun r => post r (1, 1, 1, (-1), (-1), 1, 0, (ux_l [0, 0, 0, 0]), (ux_l [0, (-1), (-1)]), (ux_l [1]), (ux_l [1037, 39457, 48, 0]), (ux_l [2, 1, 1]), (ux_l [2, 3, 0]), (ux_l [0, 0, 0, 0, 0, 0]), (ux_l [0, 1, 1]), (ux_l [0, 0, 0]), (ux_l [3, x.toInt8.toInt32]), (ux_l [1, 2]), (ux_l [0, 0, 0]), (fun _ => 0), (fun _ => 0), (fun _ => 0), (fun _ => 0), (fun _ => 0), (fun _ => 0), (fun _ => 0), (fun _ => 0), (fun _ => 0), (ux_l [1]), (ux_l [(-1), (-1), (-1), (-1), (-1)]), (ux_l [1]), (ux_l [3]), (ux_l [1037, 39457, 48]), (ux_l [x, 0, 0, 0]), (ux_l [0]), (ux_l [0, 0, 0, 0]), (ux_l [(-1)]), (fun _ => 0))) rfl hp
theorem ux_empty_2 {x : Int32} (h0 : ¬ x < 0) (h14 : ¬ 14 < x) (h3 : ¬ x = 3) {post : St2 → Prop} {p0 : Int32} (h_p0 : p0 = 2) (hp : post (1, 1, 1, (-1), (-1), 1, 0, (ux_l [0, 0, 0, 0]), (ux_l [0, (-1), (-1)]), (ux_l [1]), (ux_l [1037, 39457, 48, 0]), (ux_l [2, 1, 1]), (ux_l [2, 3, 0]), (ux_l [0, 0, 0, 0, 0, 0]), (ux_l [0, 1, 1]), (ux_l [0, 0, 0]), (ux_l [3, x.toInt8.toInt32]), (ux_l [1, 2]), (ux_l [0, 0, 0]), (fun _ => 0), (fun _ => 0), (fun _ => 0), (fun _ => 0), (fun _ => 0), (fun _ => 0), (fun _ => 0), (fun _ => 0), (fun _ => 0), (ux_l [1]), (ux_l [(-1), (-1), (-1), (-1), (-1)]), (ux_l [1]), (ux_l [3]), (ux_l [1037, 39457, 48]), (ux_l [x, 0, 0, 0]), (ux_l [0]), (ux_l [0, 0, 0, 0]), (ux_l [(-1)]), (fun _ => 0))) : wpX_empty post (1, 1, 1, (-1), (-1), 1, 0, (ux_l [0, 0, 0, 0]), (ux_l [0, (-1), (-1)]), (ux_l [1]), (ux_l [1037, 39457, 48, 0]), (ux_l [2, 1, 1]), (ux_l [2, 3, 0]), (ux_l [0, 0, 0, 0, 0, 0]), (ux_l [0, 1, 1]), (ux_l [0, 0, 0]), (ux_l [3, x.toInt8.toInt32]), (ux_l [1, 2]), (ux_l [0, 0, 0]), (fun _ => 0), (fun _ => 0), (fun _ => 0), (fun _ => 0), (fun _ => 0), (fun _ => 0), (fun _ => 0), (fun _ => 0), (fun _ => 0), (ux_l [1]), (ux_l [(-1), (-1), (-1), (-1), (-1)]), (ux_l [1]), (ux_l [3]), (ux_l [1037, 39457, 48]), (ux_l [x, 0, 0, 0]), (ux_l [0]), (ux_l [0, 0, 0, 0]), (ux_l [(-1)]), (fun _ => 0)) p0 := by
  subst h_p0
  refine Exists.intro 24 ?_
  refine And.intro (vp_in_iff.mpr (by decide +kernel)) ?_
  refine br_t (by decide +kernel) ?_
  refine And.intro (vp_in_iff.mpr (by decide +kernel)) ?_
  refine nm_r (ux_up (l' := [2, 3, 0]) (k' := 2) (v' := 0) (by decide +kernel) (by decide +kernel) rfl) ?_
  exact hp
theorem ux_open_2 {x : Int32} (h0 : ¬ x < 0) (h14 : ¬ 14 < x) (h3 : ¬ x = 3) {post : Int32 → St2 → Prop} {p0 : Int32} {p1 : Int32} {p3 : Int32} (h_p0 : p0 = 0) (h_p1 : p1 = 0) (h_p3 : p3 = 2) (hp : post 1 (1, 1, 1, (-1), (-1), 1, 0, (ux_l [0, 0, 0, 0]), (ux_l [0, (-1), (-1)]), (ux_l [1]), (ux_l [1037, 39457, 48, 0]), (ux_l [2, 1, 1]), (ux_l [2, 3, 0]), (ux_l [0, 0, 0, 0, 0, 0]), (ux_l [0, 1, 1]), (ux_l [0, 0, 1]), (ux_l [3, x.toInt8.toInt32]), (ux_l [1, 2]), (ux_l [0, 0, 0]), (ux_l [2]), (ux_l [1]), (ux_l [0]), (ux_l [1]), (fun _ => 0), (fun _ => 0), (fun _ => 0), (fun _ => 0), (fun _ => 0), (ux_l [1]), (ux_l [(-1), (-1), (-1), (-1), (-1)]), (ux_l [1]), (ux_l [3]), (ux_l [1037, 39457, 48]), (ux_l [0, 0, 0, 0]), (ux_l [0]), (ux_l [1, 0, 0, 0]), (ux_l [(-1)]), (fun _ => 0))) : wpX_open post (1, 1, 1, (-1), (-1), 1, 0, (ux_l [0, 0, 0, 0]), (ux_l [0, (-1), (-1)]), (ux_l [1]), (ux_l [1037, 39457, 48, 0]), (ux_l [2, 1]), (ux_l [1, 3]), (ux_l [0, 0, 0, 0, 0, 0]), (ux_l [0, 1]), (ux_l [0, 0]), (ux_l [3]), (ux_l [1]), (ux_l [0, 0]), (fun _ => 0), (fun _ => 0), (fun _ => 0), (fun _ => 0), (fun _ => 0), (fun _ => 0), (fun _ => 0), (fun _ => 0), (fun _ => 0), (ux_l [1]), (ux_l [(-1), (-1), (-1), (-1), (-1)]), (ux_l [1]), (ux_l [3]), (ux_l [1037, 39457, 48]), (ux_l [x, 0, 0, 0]), (ux_l [0]), (ux_l [0, 0, 0, 0]), (ux_l [(-1)]), (fun _ => 0)) p0 p1 x p3 := by
  subst h_p0
  subst h_p1
  subst h_p3
  refine Exists.intro 24 ?_
  refine br_f (by decide +kernel) ?_
  refine And.intro (vp_in_iff.mpr (by decide +kernel)) ?_
  refine br_t (by decide +kernel) ?_
  refine Exists.intro 24 ?_
  refine br_f (by decide +kernel) ?_
  refine And.intro (vp_in_iff.mpr (by decide +kernel)) ?_
  refine br_t (by decide +kernel) ?_
  refine br_f (by decide +kernel) ?_
  refine br_t (by decide +kernel) ?_
  refine br_f h0 ?_
  refine br_f (ux_15 h14) ?_
  refine br_f (by decide +kernel) ?_
  refine And.intro (vp_in_iff.mpr (by decide +kernel)) ?_
  refine nm_r (e' := 0) (by decide +kernel) ?_
  refine Exists.intro 24 ?_
  refine And.intro (vp_in_iff.mpr (by decide +kernel)) ?_
  refine br_f (by decide +kernel) ?_
  refine And.intro (vp_in_iff.mpr (by decide +kernel)) ?_
  refine br_f (fun z => h3 z.symm) ?_
  refine nm_r (e' := 1) (by decide +kernel) ?_
  refine And.intro (vp_in_iff.mpr (by decide +kernel)) ?_
  refine br_t (by decide +kernel) ?_
  refine br_f (by decide +kernel) ?_
  refine br_t (by decide +kernel) ?_
  refine br_f (by decide +kernel) ?_
  refine br_t (by decide +kernel) ?_
  refine And.intro (vp_in_iff.mpr (by decide +kernel)) ?_
  refine nm_r (e' := 0) (by decide +kernel) ?_
  refine Exists.intro 24 ?_
  refine And.intro (vp_in_iff.mpr (by decide +kernel)) ?_
  refine br_f (by decide +kernel) ?_
  refine And.intro (vp_in_iff.mpr (by decide +kernel)) ?_
  refine br_f (fun z => h3 z.symm) ?_
  refine nm_r (e' := 1) (by decide +kernel) ?_
  refine And.intro (vp_in_iff.mpr (by decide +kernel)) ?_
  refine br_t (by decide +kernel) ?_
  refine br_f (by decide +kernel) ?_
  refine br_f (by decide +kernel) ?_
  refine And.intro (vp_in_iff.mpr (by decide +kernel)) ?_
  refine ux_enterNew_2 h0 h14 h3 (by decide +kernel) (by decide +kernel) ?_
  refine br_t (by decide +kernel) ?_
  refine br_t (by decide +kernel) ?_
  refine ux_empty_2 h0 h14 h3 (by decide +kernel) ?_
  refine And.intro (vp_in_iff.mpr (by decide +kernel)) ?_
  refine nm_r (ux_up0 (l' := [2]) (k' := 0) (v' := 2) (by decide +kernel) (by decide +kernel) rfl) ?_
  refine br_f (by decide +kernel) ?_
  refine And.intro (vp_in_iff.mpr (by decide +kernel)) ?_
  refine nm_r (ux_up0 (l' := [1]) (k' := 0) (v' := 1) (by decide +kernel) (by decide +kernel) rfl) ?_
  refine br_f (by decide +kernel) ?_
  refine And.intro (vp_in_iff.mpr (by decide +kernel)) ?_
  refine nm_r (ux_up0 (l' := [0]) (k' := 0) (v' := 0) (by decide +kernel) (by decide +kernel) rfl) ?_
  refine And.intro (vp_in_iff.mpr (by decide +kernel)) ?_
  refine nm_r (ux_up0 (l' := [1]) (k' := 0) (v' := 1) (by decide +kernel) (by decide +kernel) rfl) ?_
  refine And.intro (vp_in_iff.mpr (by decide +kernel)) ?_
  refine And.intro (vp_in_iff.mpr (by decide +kernel)) ?_
  refine nm_r (ux_up (l' := [0, 0, 1]) (k' := 2) (v' := 1) (by decide +kernel) (by decide +kernel) rfl) ?_
  refine And.intro (vp_in_iff.mpr (by decide +kernel)) ?_
  refine nm_r (ux_up (l' := [1, 0, 0, 0]) (k' := 0) (v' := 1) (by decide +kernel) (by decide +kernel) rfl) ?_
  refine And.intro (vp_in_iff.mpr (by decide +kernel)) ?_
  refine nm_r (ux_up (l' := [0, 0, 0, 0]) (k' := 0) (v' := 0) (by decide +kernel) (by decide +kernel) rfl) ?_
  exact hp
theorem ux_callKernel_2 {x : Int32} (h0 : ¬ x < 0) (h14 : ¬ 14 < x) (h3 : ¬ x = 3) {post : St2 → Prop} {p0 : Int32} {p1 : Int32} {p2 : Int32} {p3 : Int32} {p4 : Int32} (h_p0 : p0 = 0) (h_p1 : p1 = 13) (h_p2 : p2 = 0) (h_p3 : p3 = 0) (h_p4 : p4 = 2) (hp : post (1, 1, 1, (-1), (-1), 1, 0, (ux_l [0, 0, 0, 0]), (ux_l [0, (-1), (-1)]), (ux_l [1]), (ux_l [1037, 39457, 48, 0]), (ux_l [2, 1, 1]), (ux_l [2, 3, 0]), (ux_l [0, 0, 0, 0, 0, 0]), (ux_l [0, 1, 1]), (ux_l [0, 0, 1]), (ux_l [3, x.toInt8.toInt32]), (ux_l [1, 2]), (ux_l [0, 0, 0]), (ux_l [2]), (ux_l [1]), (ux_l [0]), (ux_l [1]), (fun _ => 0), (fun _ => 0), (fun _ => 0), (fun _ => 0), (fun _ => 0), (ux_l [1]), (ux_l [(-1), (-1), (-1), (-1), (-1)]), (ux_l [1]), (ux_l [3]), (ux_l [1037, 39457, 48]), (ux_l [0, 0, 0, 0]), (ux_l [0]), (ux_l [1, 0, 0, 0]), (ux_l [(-1)]), (fun _ => 0))) : wpX_callKernel post (1, 1, 1, (-1), (-1), 1, 0, (ux_l [0, 0, 0, 0]), (ux_l [0, (-1), (-1)]), (ux_l [1]), (ux_l [1037, 39457, 48, 0]), (ux_l [2, 1]), (ux_l [1, 3]), (ux_l [0, 0, 0, 0, 0, 0]), (ux_l [0, 1]), (ux_l [0, 0]), (ux_l [3]), (ux_l [1]), (ux_l [0, 0]), (fun _ => 0), (fun _ => 0), (fun _ => 0), (fun _ => 0), (fun _ => 0), (fun _ => 0), (fun _ => 0), (fun _ => 0), (fun _ => 0), (ux_l [1]), (ux_l [(-1), (-1), (-1), (-1), (-1)]), (ux_l [1]), (ux_l [3]), (ux_l [1037, 39457, 48]), (ux_l [x, 0, 0, 0]), (ux_l [0]), (ux_l [0, 0, 0, 0]), (ux_l [(-1)]), (fun _ => 0)) p0 p1 p2 p3 p4 := by
  subst h_p0
  subst h_p1
  subst h_p2
  subst h_p3
  subst h_p4
  refine And.intro (vp_in_iff.mpr (by decide +kernel)) ?_
  refine nm_r (e' := x) rfl ?_
  refine And.intro (vp_in_iff.mpr (by decide +kernel)) ?_
  refine nm_r (e' := x) rfl ?_
  refine br_f (by decide +kernel) ?_
  refine br_t (by decide +kernel) ?_
  refine ux_open_2 h0 h14 h3 (by decide +kernel) (by decide +kernel) (by decide +kernel) ?_
  refine br_f (by decide +kernel) ?_
  refine br_t (by decide +kernel) ?_
  refine br_f (by decide +kernel) ?_
  refine br_t (by decide +kernel) ?_
  exact hp
theorem ux_execute_4 {x : Int32} (h0 : ¬ x < 0) (h14 : ¬ 14 < x) (h3 : ¬ x = 3) {post : St2 → Prop} {p0 : Int32} {p1 : Int32} (h_p0 : p0 = 0) (h_p1 : p1 = 1037) (hp : post (1, 1, 1, (-1), (-1), 1, 0, (ux_l [0, 0, 0, 0]), (ux_l [0, (-1), (-1)]), (ux_l [1]), (ux_l [1037, 39457, 48, 0]), (ux_l [2, 1, 1]), (ux_l [2, 3, 0]), (ux_l [0, 0, 0, 0, 0, 0]), (ux_l [0, 1, 1]), (ux_l [0, 0, 1]), (ux_l [3, x.toInt8.toInt32]), (ux_l [1, 2]), (ux_l [0, 0, 0]), (ux_l [2]), (ux_l [1]), (ux_l [0]), (ux_l [1]), (fun _ => 0), (fun _ => 0), (fun _ => 0), (fun _ => 0), (fun _ => 0), (ux_l [1]), (ux_l [(-1), (-1), (-1), (-1), (-1)]), (ux_l [1]), (ux_l [3]), (ux_l [1037, 39457, 48]), (ux_l [0, 0, 0, 0]), (ux_l [0]), (ux_l [1, 0, 0, 0]), (ux_l [(-1)]), (fun _ => 0))) : wpX_execute post (1, 1, 1, (-1), (-1), 1, 0, (ux_l [0, 0, 0, 0]), (ux_l [0, (-1), (-1)]), (ux_l [1]), (ux_l [1037, 39457, 48, 0]), (ux_l [2, 1]), (ux_l [1, 3]), (ux_l [0, 0, 0, 0, 0, 0]), (ux_l [0, 1]), (ux_l [0, 0]), (ux_l [3]), (ux_l [1]), (ux_l [0, 0]), (fun _ => 0), (fun _ => 0), (fun _ => 0), (fun _ => 0), (fun _ => 0), (fun _ => 0), (fun _ => 0), (fun _ => 0), (fun _ => 0), (ux_l [1]), (ux_l [(-1), (-1), (-1), (-1), (-1)]), (ux_l [0]), (ux_l [3]), (ux_l [1037, 39457, 48]), (ux_l [x, 0, 0, 0]), (ux_l [0]), (ux_l [0, 0, 0, 0]), (ux_l [(-1)]), (fun _ => 0)) p0 p1 := by
  subst h_p0
  subst h_p1
  refine nm_r (e' := 13) (by decide +kernel) ?_
  refine nm_r (e' := 0) (by decide +kernel) ?_
  refine nm_r (e' := 0) (by decide +kernel) ?_
  refine nm_r (e' := 2) (by decide +kernel) ?_
  refine And.intro (vp_in_iff.mpr (by decide +kernel)) ?_
  refine nm_r (e' := x) rfl ?_
  refine And.intro (vp_in_iff.mpr (by decide +kernel)) ?_
  refine nm_r (e' := x) rfl ?_
  refine And.intro (vp_in_iff.mpr (by decide +kernel)) ?_
  refine And.intro (vp_in_iff.mpr (by decide +kernel)) ?_
  refine nm_r (ux_up (l' := [1]) (k' := 0) (v' := 1) (by decide +kernel) (by decide +kernel) rfl) ?_
  refine br_f (by decide +kernel) ?_
  refine br_t (by decide +kernel) ?_
  refine br_t (by decide +kernel) ?_
  refine br_f (by decide +kernel) ?_
  refine br_f (by decide +kernel) ?_
  refine br_f (by decide +kernel) ?_
  refine br_f (by decide +kernel) ?_
  refine br_f (by decide +kernel) ?_
  refine br_f (by decide +kernel) ?_
  refine br_f (by decide +kernel) ?_
  refine br_f (by decide +kernel) ?_
  refine br_f (by decide +kernel) ?_
  refine br_f (by decide +kernel) ?_
  refine ux_callKernel_2 h0 h14 h3 (by decide +kernel) (by decide +kernel) (by decide +kernel) (by decide +kernel) (by decide +kernel) ?_
  exact hp
theorem ux_execute_5 {x : Int32} (h0 : ¬ x < 0) (h14 : ¬ 14 < x) (h3 : ¬ x = 3) {post : St2 → Prop} {p0 : Int32} {p1 : Int32} (h_p0 : p0 = 0) (h_p1 : p1 = 39457) (hp : post (1, 1, 1, (-1), (-1), 2, 0, (ux_l [0, 0, 0, 0]), (ux_l [0, (-1), (-1)]), (ux_l [1]), (ux_l [1037, 39457, 48, 0]), (ux_l [2, 1, 1]), (ux_l [2, 3, 0]), (ux_l [0, 0, 0, 0, 0, 0]), (ux_l [0, 1, 1]), (ux_l [0, 0, 1]), (ux_l [3, x.toInt8.toInt32]), (ux_l [1, 2]), (ux_l [0, 0, 0]), (ux_l [2]), (ux_l [1]), (ux_l [0]), (ux_l [1]), (fun _ => 0), (fun _ => 0), (fun _ => 0), (fun _ => 0), (fun _ => 0), (ux_l [1]), (ux_l [(-1), (-1), (-1), (-1), (-1)]), (ux_l [2]), (ux_l [3]), (ux_l [1037, 39457, 48]), (ux_l [0, 77, 0, 0]), (ux_l [0]), (ux_l [1, 0, 0, 0]), (ux_l [(-1)]), (fun _ => 0))) : wpX_execute post (1, 1, 1, (-1), (-1), 2, 0, (ux_l [0, 0, 0, 0]), (ux_l [0, (-1), (-1)]), (ux_l [1]), (ux_l [1037, 39457, 48, 0]), (ux_l [2, 1, 1]), (ux_l [2, 3, 0]), (ux_l [0, 0, 0, 0, 0, 0]), (ux_l [0, 1, 1]), (ux_l [0, 0, 1]), (ux_l [3, x.toInt8.toInt32]), (ux_l [1, 2]), (ux_l [0, 0, 0]), (ux_l [2]), (ux_l [1]), (ux_l [0]), (ux_l [1]), (fun _ => 0), (fun _ => 0), (fun _ => 0), (fun _ => 0), (fun _ => 0), (ux_l [1]), (ux_l [(-1), (-1), (-1), (-1), (-1)]), (ux_l [1]), (ux_l [3]), (ux_l [1037, 39457, 48]), (ux_l [0, 0, 0, 0]), (ux_l [0]), (ux_l [1, 0, 0, 0]), (ux_l [(-1)]), (fun _ => 0)) p0 p1 := by
  subst h_p0
  subst h_p1
  refine nm_r (e' := 1) (by decide +kernel) ?_
  refine nm_r (e' := 1) (by decide +kernel) ?_
  refine nm_r (e' := 0) (by decide +kernel) ?_
  refine nm_r (e' := 77) (by decide +kernel) ?_
  refine And.intro (vp_in_iff.mpr (by decide +kernel)) ?_
  refine nm_r (e' := 0) (by decide +kernel) ?_
  refine And.intro (vp_in_iff.mpr (by decide +kernel)) ?_
  refine nm_r (e' := 0) (by decide +kernel) ?_
  refine And.intro (vp_in_iff.mpr (by decide +kernel)) ?_
  refine And.intro (vp_in_iff.mpr (by decide +kernel)) ?_
  refine nm_r (ux_up (l' := [2]) (k' := 0) (v' := 2) (by decide +kernel) (by decide +kernel) rfl) ?_
  refine br_f (by decide +kernel) ?_
  refine br_f (by decide +kernel) ?_
  refine br_t (by decide +kernel) ?_
  refine And.intro (vp_in_iff.mpr (by decide +kernel)) ?_
  refine nm_r (ux_up (l' := [0, 77, 0, 0]) (k' := 1) (v' := 77) (by decide +kernel) (by decide +kernel) rfl) ?_
  exact hp
theorem ux_newBlock_3 {x : Int32} (h0 : ¬ x < 0) (h14 : ¬ 14 < x) (h3 : ¬ x = 3) {post : Int32 → St2 → Prop} (hp : post 1 (3, 1, 1, (-1), (-1), 3, 0, (ux_l [0, 0, 0, 0, 0, 0, 0, 0]), (ux_l [0, (-1), (-1)]), (ux_l [1]), (ux_l [1037, 39457, 48, 0]), (ux_l [2, 1, 1]), (ux_l [2, 3, 0]), (ux_l [0, 0, 0, 0, 0, 0]), (ux_l [0, 1, 1]), (ux_l [0, 0, 1]), (ux_l [3, x.toInt8.toInt32]), (ux_l [1, 2]), (ux_l [0, 0, 0]), (ux_l [2]), (ux_l [1]), (ux_l [0]), (ux_l [1]), (fun _ => 0), (fun _ => 0), (fun _ => 0), (fun _ => 0), (fun _ => 0), (ux_l [1]), (ux_l [(-1), (-1), (-1), (-1), (-1)]), (ux_l [3]), (ux_l [3]), (ux_l [1037, 39457, 48]), (ux_l [0, 77, 0, 0]), (ux_l [0]), (ux_l [1, 0, 0, 0]), (ux_l [(-1)]), (fun _ => 0))) : wpX_newBlock post (1, 1, 1, (-1), (-1), 3, 0, (ux_l [0, 0, 0, 0]), (ux_l [0, (-1), (-1)]), (ux_l [1]), (ux_l [1037, 39457, 48, 0]), (ux_l [2, 1, 1]), (ux_l [2, 3, 0]), (ux_l [0, 0, 0, 0, 0, 0]), (ux_l [0, 1, 1]), (ux_l [0, 0, 1]), (ux_l [3, x.toInt8.toInt32]), (ux_l [1, 2]), (ux_l [0, 0, 0]), (ux_l [2]), (ux_l [1]), (ux_l [0]), (ux_l [1]), (fun _ => 0), (fun _ => 0), (fun _ => 0), (fun _ => 0), (fun _ => 0), (ux_l [1]), (ux_l [(-1), (-1), (-1), (-1), (-1)]), (ux_l [3]), (ux_l [3]), (ux_l [1037, 39457, 48]), (ux_l [0, 77, 0, 0]), (ux_l [0]), (ux_l [1, 0, 0, 0]), (ux_l [(-1)]), (fun _ => 0)) := by
  refine Exists.intro 24 ?_
  refine br_f (by decide +kernel) ?_
  refine nm_r (e' := 1) (by decide +kernel) ?_
  refine br_t (by decide +kernel) ?_
  refine nm_r (e' := 3) (by decide +kernel) ?_
  refine Exists.intro 24 ?_
  refine br_f (by decide +kernel) ?_
  refine And.intro (vp_in_iff.mpr (by decide +kernel)) ?_
  refine nm_r (ux_up (l' := [0, 0, 0, 0, 0]) (k' := 4) (v' := 0) (by decide +kernel) (by decide +kernel) rfl) ?_
  refine nm_r (e' := 1) (by decide +kernel) ?_
  refine br_f (by decide +kernel) ?_
  refine And.intro (vp_in_iff.mpr (by decide +kernel)) ?_
  refine nm_r (ux_up (l' := [0, 0, 0, 0, 0, 0]) (k' := 5) (v' := 0) (by decide +kernel) (by decide +kernel) rfl) ?_
  refine nm_r (e' := 2) (by decide +kernel) ?_
  refine br_f (by decide +kernel) ?_
  refine And.intro (vp_in_iff.mpr (by decide +kernel)) ?_
  refine nm_r (ux_up (l' := [0, 0, 0, 0, 0, 0, 0]) (k' := 6) (v' := 0) (by decide +kernel) (by decide +kernel) rfl) ?_
  refine nm_r (e' := 3) (by decide +kernel) ?_
  refine br_f (by decide +kernel) ?_
  refine And.intro (vp_in_iff.mpr (by decide +kernel)) ?_
  refine nm_r (ux_up (l' := [0, 0, 0, 0, 0, 0, 0, 0]) (k' := 7) (v' := 0) (by decide +kernel) (by decide +kernel) rfl) ?_
  refine nm_r (e' := 4) (by decide +kernel) ?_
  refine br_t (by decide +kernel) ?_
  exact ek_v (P := fun r => post r (3, 1, 1, (-1), (-1), 3, 0, (ux_l [0, 0, 0, 0, 0, 0, 0, 0]), (ux_l [0, (-1), (-1)]), (ux_l [1]), (ux_l [1037, 39457, 48, 0]), (ux_l [2, 1, 1]), (ux_l [2, 3, 0]), (ux_l [0, 0, 0, 0, 0, 0]), (ux_l [0, 1, 1]), (ux_l [0, 0, 1]), (ux_l [3, x.toInt8.toInt32]), (ux_l [1, 2]), (ux_l [0, 0, 0]), (ux_l [2]), (ux_l [1]), (ux_l [0]), (ux_l [1]), (fun _ => 0), (fun _ => 0), (fun _ => 0), (fun _ => 0), (fun _ => 0), (ux_l [1]), (ux_l [(-1), (-1), (-1), (-1), (-1)]), (ux_l [3]), (ux_l [3]), (ux_l [1037, 39457, 48]), (ux_l [0, 77, 0, 0]), (ux_l [0]), (ux_l [1, 0, 0, 0]), (ux_l [(-1)]), (fun _ => 0))) rfl hp
theorem ux_writeBack_3 {x : Int32} (h0 : ¬ x < 0) (h14 : ¬ 14 < x) (h3 : ¬ x = 3) {post : St2 → Prop} {p0 : Int32} (h_p0 : p0 = 1) (hp : post (3, 2, 1, (-1), (-1), 3, 0, (ux_l [0, 0, 0, 0, 0, 0, 0, 0]), (ux_l [0, (-1), (-1)]), (ux_l [1, 0]), (ux_l [1037, 39457, 48, 0]), (ux_l [2, 1, 1]), (ux_l [2, 3, 1]), (ux_l [0, 0, 0, 0, 0, 0, 0, 0, 0, 0, 1]), (ux_l [0, 1, 1]), (ux_l [0, 0, 1]), (ux_l [3, x.toInt8.toInt32]), (ux_l [1, 2]), (ux_l [0, 0, 0]), (ux_l [2]), (ux_l [1]), (ux_l [0]), (ux_l [1]), (fun _ => 0), (fun _ => 0), (fun _ => 0), (fun _ => 0), (fun _ => 0), (ux_l [1]), (ux_l [(-1), (-1), (-1), (-1), (-1)]), (ux_l [3]), (ux_l [3]), (ux_l [1037, 39457, 48]), (ux_l [0, 77, 0, 0]), (ux_l [0]), (ux_l [1, 0, 0, 0]), (ux_l [(-1)]), (fun _ => 0))) : wpX_writeBack post (3, 2, 1, (-1), (-1), 3, 0, (ux_l [0, 0, 0, 0, 0, 0, 0, 0]), (ux_l [0, (-1), (-1)]), (ux_l [1]), (ux_l [1037, 39457, 48, 0]), (ux_l [2, 1, 1]), (ux_l [2, 3, 1]), (ux_l [0, 0, 0, 0, 0, 0, 0, 0, 0, 0, 1]), (ux_l [0, 1, 1]), (ux_l [0, 0, 1]), (ux_l [3, x.toInt8.toInt32]), (ux_l [1, 2]), (ux_l [0, 0, 0]), (ux_l [2]), (ux_l [1]), (ux_l [0]), (ux_l [1]), (fun _ => 0), (fun _ => 0), (fun _ => 0), (fun _ => 0), (fun _ => 0), (ux_l [1]), (ux_l [(-1), (-1), (-1), (-1), (-1)]), (ux_l [3]), (ux_l [3]), (ux_l [1037, 39457, 48]), (ux_l [0, 77, 0, 0]), (ux_l [0]), (ux_l [1, 0, 0, 0]), (ux_l [(-1)]), (fun _ => 0)) p0 := by
  subst h_p0
  refine And.intro (vp_in_iff.mpr (by decide +kernel)) ?_
  refine nm_r (e' := (-1)) (by decide +kernel) ?_
  refine br_t (by decide +kernel) ?_
  refine And.intro (vp_in_iff.mpr (by decide +kernel)) ?_
  refine nm_r (ux_up (l' := [0, (-1), (-1)]) (k' := 1) (v' := (-1)) (by decide +kernel) (by decide +kernel) rfl) ?_
  refine And.intro (vp_in_iff.mpr (by decide +kernel)) ?_
  refine nm_r (ux_up (l' := [1, 0]) (k' := 1) (v' := 0) (by decide +kernel) (by decide +kernel) rfl) ?_
  exact hp
theorem ux_slotFor_5 {x : Int32} (h0 : ¬ x < 0) (h14 : ¬ 14 < x) (h3 : ¬ x = 3) {post : Int32 → St2 → Prop} {p0 : Int32} (h_p0 : p0 = 1) (hp : post 1 (3, 2, 1, (-1), (-1), 3, 0, (ux_l [0, 0, 0, 0, 0, 0, 0, 0]), (ux_l [0, 1, (-1)]), (ux_l [1, 0]), (ux_l [1037, 39457, 48, 0, 0, 0, 0, 0]), (ux_l [2, 1, 1]), (ux_l [2, 3, 1]), (ux_l [0, 0, 0, 0, 0, 0, 0, 0, 0, 0, 1]), (ux_l [0, 1, 1]), (ux_l [0, 0, 1]), (ux_l [3, x.toInt8.toInt32]), (ux_l [1, 2]), (ux_l [0, 0, 0]), (ux_l [2]), (ux_l [1]), (ux_l [0]), (ux_l [1]), (fun _ => 0), (fun _ => 0), (fun _ => 0), (fun _ => 0), (fun _ => 0), (ux_l [1]), (ux_l [(-1), (-1), (-1), (-1), (-1)]), (ux_l [3]), (ux_l [3]), (ux_l [1037, 39457, 48]), (ux_l [0, 77, 0, 0]), (ux_l [0]), (ux_l [1, 0, 0, 0]), (ux_l [(-1)]), (fun _ => 0))) : wpX_slotFor post (3, 1, 1, (-1), (-1), 3, 0, (ux_l [0, 0, 0, 0, 0, 0, 0, 0]), (ux_l [0, (-1), (-1)]), (ux_l [1]), (ux_l [1037, 39457, 48, 0]), (ux_l [2, 1, 1]), (ux_l [2, 3, 1]), (ux_l [0, 0, 0, 0, 0, 0, 0, 0, 0, 0, 1]), (ux_l [0, 1, 1]), (ux_l [0, 0, 1]), (ux_l [3, x.toInt8.toInt32]), (ux_l [1, 2]), (ux_l [0, 0, 0]), (ux_l [2]), (ux_l [1]), (ux_l [0]), (ux_l [1]), (fun _ => 0), (fun _ => 0), (fun _ => 0), (fun _ => 0), (fun _ => 0), (ux_l [1]), (ux_l [(-1), (-1), (-1), (-1), (-1)]), (ux_l [3]), (ux_l [3]), (ux_l [1037, 39457, 48]), (ux_l [0, 77, 0, 0]), (ux_l [0]), (ux_l [1, 0, 0, 0]), (ux_l [(-1)]), (fun _ => 0)) p0 := by
  subst h_p0
  refine Exists.intro 24 ?_
  refine br_f (by decide +kernel) ?_
  refine And.intro (vp_in_iff.mpr (by decide +kernel)) ?_
  refine br_f (by decide +kernel) ?_
  refine nm_r (e' := 1) (by decide +kernel) ?_
  refine br_f (by decide +kernel) ?_
  refine And.intro (vp_in_iff.mpr (by decide +kernel)) ?_
  refine br_f (by decide +kernel) ?_
  refine nm_r (e' := 2) (by decide +kernel) ?_
  refine br_f (by decide +kernel) ?_
  refine And.intro (vp_in_iff.mpr (by decide +kernel)) ?_
  refine br_f (by decide +kernel) ?_
  refine nm_r (e' := 3) (by decide +kernel) ?_
  refine br_t (by decide +kernel) ?_
  refine And.intro (by decide +kernel) ?_
  refine nm_r (e' := 2) (by decide +kernel) ?_
  refine ux_writeBack_3 h0 h14 h3 (by decide +kernel) ?_
  refine And.intro (vp_in_iff.mpr (by decide +kernel)) ?_
  refine nm_r (ux_up (l' := [0, 1, (-1)]) (k' := 1) (v' := 1) (by decide +kernel) (by decide +kernel) rfl) ?_
  refine Exists.intro 24 ?_
  refine br_f (by decide +kernel) ?_
  refine And.intro (vp_in_iff.mpr (by decide +kernel)) ?_
  refine And.intro (vp_in_iff.mpr (by decide +kernel)) ?_
  refine nm_r (ux_up (l' := [1037, 39457, 48, 0, 0]) (k' := 4) (v' := 0) (by decide +kernel) (by decide +kernel) rfl) ?_
  refine nm_r (e' := 1) (by decide +kernel) ?_
  refine br_f (by decide +kernel) ?_
  refine And.intro (vp_in_iff.mpr (by decide +kernel)) ?_
  refine And.intro (vp_in_iff.mpr (by decide +kernel)) ?_
  refine nm_r (ux_up (l' := [1037, 39457, 48, 0, 0, 0]) (k' := 5) (v' := 0) (by decide +kernel) (by decide +kernel) rfl) ?_
  refine nm_r (e' := 2) (by decide +kernel) ?_
  refine br_f (by decide +kernel) ?_
  refine And.intro (vp_in_iff.mpr (by decide +kernel)) ?_
  refine And.intro (vp_in_iff.mpr (by decide +kernel)) ?_
  refine nm_r (ux_up (l' := [1037, 39457, 48, 0, 0, 0, 0]) (k' := 6) (v' := 0) (by decide +kernel) (by decide +kernel) rfl) ?_
  refine nm_r (e' := 3) (by decide +kernel) ?_
  refine br_f (by decide +kernel) ?_
  refine And.intro (vp_in_iff.mpr (by decide +kernel)) ?_
  refine And.intro (vp_in_iff.mpr (by decide +kernel)) ?_
  refine nm_r (ux_up (l' := [1037, 39457, 48, 0, 0, 0, 0, 0]) (k' := 7) (v' := 0) (by decide +kernel) (by decide +kernel) rfl) ?_
  refine nm_r (e' := 4) (by decide +kernel) ?_
  refine br_t (by decide +kernel) ?_
  exact ek_v (P := fun r => post r (3, 2, 1, (-1), (-1), 3, 0, (ux_l [0, 0, 0, 0, 0, 0, 0, 0]), (ux_l [0, 1, (-1)]), (ux_l [1, 0]), (ux_l [1037, 39457, 48, 0, 0, 0, 0, 0]), (ux_l [2, 1, 1]), (ux_l [2, 3, 1]), (ux_l [0, 0, 0, 0, 0, 0, 0, 0, 0, 0, 1]), (ux_l [0, 1, 1]), (ux_l [0, 0, 1]), (ux_l [3, x.toInt8.toInt32]), (ux_l [1, 2]), (ux_l [0, 0, 0]), (ux_l [2]), (ux_l [1]), (ux_l [0]), (ux_l [1]), (fun _ => 0), (fun _ => 0), (fun _ => 0), (fun _ => 0), (fun _ => 0), (ux_l [1]), (ux_l [(-1), (-1), (-1), (-1), (-1)]), (ux_l [3]), (ux_l [3]), (ux_l [1037, 39457, 48]), (ux_l [0, 77, 0, 0]), (ux_l [0]), (ux_l [1, 0, 0, 0]), (ux_l [(-1)]), (fun _ => 0))) rfl hp
theorem ux_putWord_5 {x : Int32} (h0 : ¬ x < 0) (h14 : ¬ 14 < x) (h3 : ¬ x = 3) {post : St2 → Prop} {p0 : Int32} {p1 : Int32} {p2 : Int32} (h_p0 : p0 = 2) (h_p1 : p1 = 0) (h_p2 : p2 = 77) (hp : post (3, 2, 1, (-1), (-1), 3, 0, (ux_l [0, 0, 0, 0, 0, 0, 0, 0]), (ux_l [0, 1, (-1)]), (ux_l [1, 1]), (ux_l [1037, 39457, 48, 0, 77, 0, 0, 0]), (ux_l [2, 1, 1]), (ux_l [2, 3, 1]), (ux_l [0, 0, 0, 0, 0, 0, 0, 0, 0, 0, 1]), (ux_l [0, 1, 1]), (ux_l [0, 0, 1]), (ux_l [3, x.toInt8.toInt32]), (ux_l [1, 2]), (ux_l [0, 0, 0]), (ux_l [2]), (ux_l [1]), (ux_l [0]), (ux_l [1]), (fun _ => 0), (fun _ => 0), (fun _ => 0), (fun _ => 0), (fun _ => 0), (ux_l [1]), (ux_l [(-1), (-1), (-1), (-1), (-1)]), (ux_l [3]), (ux_l [3]), (ux_l [1037, 39457, 48]), (ux_l [0, 77, 0, 0]), (ux_l [0]), (ux_l [1, 0, 0, 0]), (ux_l [(-1)]), (fun _ => 0))) : wpX_putWord post (1, 1, 1, (-1), (-1), 3, 0, (ux_l [0, 0, 0, 0]), (ux_l [0, (-1), (-1)]), (ux_l [1]), (ux_l [1037, 39457, 48, 0]), (ux_l [2, 1, 1]), (ux_l [2, 3, 0]), (ux_l [0, 0, 0, 0, 0, 0]), (ux_l [0, 1, 1]), (ux_l [0, 0, 1]), (ux_l [3, x.toInt8.toInt32]), (ux_l [1, 2]), (ux_l [0, 0, 0]), (ux_l [2]), (ux_l [1]), (ux_l [0]), (ux_l [1]), (fun _ => 0), (fun _ => 0), (fun _ => 0), (fun _ => 0), (fun _ => 0), (ux_l [1]), (ux_l [(-1), (-1), (-1), (-1), (-1)]), (ux_l [3]), (ux_l [3]), (ux_l [1037, 39457, 48]), (ux_l [0, 77, 0, 0]), (ux_l [0]), (ux_l [1, 0, 0, 0]), (ux_l [(-1)]), (fun _ => 0)) p0 p1 p2 := by
  subst h_p0
  subst h_p1
  subst h_p2
  refine And.intro (vp_in_iff.mpr (by decide +kernel)) ?_
  refine br_t (by decide +kernel) ?_
  refine And.intro (by decide +kernel) ?_
  refine br_t (by decide +kernel) ?_
  refine And.intro (by decide +kernel) ?_
  refine ux_newBlock_3 h0 h14 h3  ?_
  refine And.intro (vp_in_iff.mpr (by decide +kernel)) ?_
  refine nm_r (ux_up (l' := [0, 0, 0, 0, 0, 0, 0, 0, 0, 0, 1]) (k' := 10) (v' := 1) (by decide +kernel) (by decide +kernel) rfl) ?_
  refine And.intro (vp_in_iff.mpr (by decide +kernel)) ?_
  refine And.intro (vp_in_iff.mpr (by decide +kernel)) ?_
  refine nm_r (ux_up (l' := [2, 3, 1]) (k' := 2) (v' := 1) (by decide +kernel) (by decide +kernel) rfl) ?_
  refine And.intro (by decide +kernel) ?_
  refine And.intro (vp_in_iff.mpr (by decide +kernel)) ?_
  refine nm_r (e' := 1) (by decide +kernel) ?_
  refine br_f (by decide +kernel) ?_
  refine ux_slotFor_5 h0 h14 h3 (by decide +kernel) ?_
  refine And.intro (by decide +kernel) ?_
  refine And.intro (vp_in_iff.mpr (by decide +kernel)) ?_
  refine nm_r (ux_up (l' := [1037, 39457, 48, 0, 77, 0, 0, 0]) (k' := 4) (v' := 77) (by decide +kernel) (by decide +kernel) rfl) ?_
  refine And.intro (vp_in_iff.mpr (by decide +kernel)) ?_
  refine nm_r (ux_up (l' := [1, 1]) (k' := 1) (v' := 1) (by decide +kernel) (by decide +kernel) rfl) ?_
  exact hp
theorem ux_writeFile_2 {x : Int32} (h0 : ¬ x < 0) (h14 : ¬ 14 < x) (h3 : ¬ x = 3) {post : Int32 → St2 → Prop} {p0 : Int32} {p1 : Int32} (h_p0 : p0 = 0) (h_p1 : p1 = 77) (hp : post 1 (3, 2, 1, (-1), (-1), 3, 0, (ux_l [0, 0, 0, 0, 0, 0, 0, 0]), (ux_l [0, 1, (-1)]), (ux_l [1, 1]), (ux_l [1037, 39457, 48, 0, 77, 0, 0, 0]), (ux_l [2, 1, 1]), (ux_l [2, 3, 1]), (ux_l [0, 0, 0, 0, 0, 0, 0, 0, 0, 0, 1]), (ux_l [0, 1, 1]), (ux_l [0, 0, 1]), (ux_l [3, x.toInt8.toInt32]), (ux_l [1, 2]), (ux_l [0, 0, 0]), (ux_l [2]), (ux_l [1]), (ux_l [1]), (ux_l [1]), (fun _ => 0), (fun _ => 0), (fun _ => 0), (fun _ => 0), (fun _ => 0), (ux_l [1]), (ux_l [(-1), (-1), (-1), (-1), (-1)]), (ux_l [3]), (ux_l [3]), (ux_l [1037, 39457, 48]), (ux_l [0, 77, 0, 0]), (ux_l [0]), (ux_l [1, 0, 0, 0]), (ux_l [(-1)]), (fun _ => 0))) : wpX_writeFile post (1, 1, 1, (-1), (-1), 3, 0, (ux_l [0, 0, 0, 0]), (ux_l [0, (-1), (-1)]), (ux_l [1]), (ux_l [1037, 39457, 48, 0]), (ux_l [2, 1, 1]), (ux_l [2, 3, 0]), (ux_l [0, 0, 0, 0, 0, 0]), (ux_l [0, 1, 1]), (ux_l [0, 0, 1]), (ux_l [3, x.toInt8.toInt32]), (ux_l [1, 2]), (ux_l [0, 0, 0]), (ux_l [2]), (ux_l [1]), (ux_l [0]), (ux_l [1]), (fun _ => 0), (fun _ => 0), (fun _ => 0), (fun _ => 0), (fun _ => 0), (ux_l [1]), (ux_l [(-1), (-1), (-1), (-1), (-1)]), (ux_l [3]), (ux_l [3]), (ux_l [1037, 39457, 48]), (ux_l [0, 77, 0, 0]), (ux_l [0]), (ux_l [1, 0, 0, 0]), (ux_l [(-1)]), (fun _ => 0)) p0 p1 := by
  subst h_p0
  subst h_p1
  refine And.intro (vp_in_iff.mpr (by decide +kernel)) ?_
  refine nm_r (e' := 2) (by decide +kernel) ?_
  refine And.intro (vp_in_iff.mpr (by decide +kernel)) ?_
  refine nm_r (e' := 0) (by decide +kernel) ?_
  refine And.intro (vp_in_iff.mpr (by decide +kernel)) ?_
  refine br_f (by decide +kernel) ?_
  refine And.intro (vp_in_iff.mpr (by decide +kernel)) ?_
  refine br_f (by decide +kernel) ?_
  refine br_t (by decide +kernel) ?_
  refine ux_putWord_5 h0 h14 h3 (by decide +kernel) (by decide +kernel) (by decide +kernel) ?_
  refine And.intro (vp_in_iff.mpr (by decide +kernel)) ?_
  refine And.intro (vp_in_iff.mpr (by decide +kernel)) ?_
  refine nm_r (ux_up (l' := [1]) (k' := 0) (v' := 1) (by decide +kernel) (by decide +kernel) rfl) ?_
  exact hp
theorem ux_write_2 {x : Int32} (h0 : ¬ x < 0) (h14 : ¬ 14 < x) (h3 : ¬ x = 3) {post : St2 → Prop} {p0 : Int32} {p1 : Int32} {p2 : Int32} (h_p0 : p0 = 0) (h_p1 : p1 = 77) (h_p2 : p2 = 0) (hp : post (3, 2, 1, (-1), (-1), 3, 0, (ux_l [0, 0, 0, 0, 0, 0, 0, 0]), (ux_l [0, 1, (-1)]), (ux_l [1, 1]), (ux_l [1037, 39457, 48, 0, 77, 0, 0, 0]), (ux_l [2, 1, 1]), (ux_l [2, 3, 1]), (ux_l [0, 0, 0, 0, 0, 0, 0, 0, 0, 0, 1]), (ux_l [0, 1, 1]), (ux_l [0, 0, 1]), (ux_l [3, x.toInt8.toInt32]), (ux_l [1, 2]), (ux_l [0, 0, 0]), (ux_l [2]), (ux_l [1]), (ux_l [1]), (ux_l [1]), (fun _ => 0), (fun _ => 0), (fun _ => 0), (fun _ => 0), (fun _ => 0), (ux_l [1]), (ux_l [(-1), (-1), (-1), (-1), (-1)]), (ux_l [3]), (ux_l [3]), (ux_l [1037, 39457, 48]), (ux_l [0, 77, 0, 1]), (ux_l [0]), (ux_l [1, 0, 0, 0]), (ux_l [(-1)]), (fun _ => 0))) : wpX_write post (1, 1, 1, (-1), (-1), 3, 0, (ux_l [0, 0, 0, 0]), (ux_l [0, (-1), (-1)]), (ux_l [1]), (ux_l [1037, 39457, 48, 0]), (ux_l [2, 1, 1]), (ux_l [2, 3, 0]), (ux_l [0, 0, 0, 0, 0, 0]), (ux_l [0, 1, 1]), (ux_l [0, 0, 1]), (ux_l [3, x.toInt8.toInt32]), (ux_l [1, 2]), (ux_l [0, 0, 0]), (ux_l [2]), (ux_l [1]), (ux_l [0]), (ux_l [1]), (fun _ => 0), (fun _ => 0), (fun _ => 0), (fun _ => 0), (fun _ => 0), (ux_l [1]), (ux_l [(-1), (-1), (-1), (-1), (-1)]), (ux_l [3]), (ux_l [3]), (ux_l [1037, 39457, 48]), (ux_l [0, 77, 0, 0]), (ux_l [0]), (ux_l [1, 0, 0, 0]), (ux_l [(-1)]), (fun _ => 0)) p0 p1 p2 := by
  subst h_p0
  subst h_p1
  subst h_p2
  refine br_f (by decide +kernel) ?_
  refine br_t (by decide +kernel) ?_
  refine And.intro (vp_in_iff.mpr (by decide +kernel)) ?_
  refine br_f (by decide +kernel) ?_
  refine br_f (by decide +kernel) ?_
  refine br_t (by decide +kernel) ?_
  refine br_f (by decide +kernel) ?_
  refine ux_writeFile_2 h0 h14 h3 (by decide +kernel) (by decide +kernel) ?_
  refine br_f (by decide +kernel) ?_
  refine And.intro (vp_in_iff.mpr (by decide +kernel)) ?_
  refine nm_r (ux_up (l' := [0, 77, 0, 1]) (k' := 3) (v' := 1) (by decide +kernel) (by decide +kernel) rfl) ?_
  exact hp
theorem ux_execute_6 {x : Int32} (h0 : ¬ x < 0) (h14 : ¬ 14 < x) (h3 : ¬ x = 3) {post : St2 → Prop} {p0 : Int32} {p1 : Int32} (h_p0 : p0 = 0) (h_p1 : p1 = 48) (hp : post (3, 2, 1, (-1), (-1), 3, 0, (ux_l [0, 0, 0, 0, 0, 0, 0, 0]), (ux_l [0, 1, (-1)]), (ux_l [1, 1]), (ux_l [1037, 39457, 48, 0, 77, 0, 0, 0]), (ux_l [2, 1, 1]), (ux_l [2, 3, 1]), (ux_l [0, 0, 0, 0, 0, 0, 0, 0, 0, 0, 1]), (ux_l [0, 1, 1]), (ux_l [0, 0, 1]), (ux_l [3, x.toInt8.toInt32]), (ux_l [1, 2]), (ux_l [0, 0, 0]), (ux_l [2]), (ux_l [1]), (ux_l [1]), (ux_l [1]), (fun _ => 0), (fun _ => 0), (fun _ => 0), (fun _ => 0), (fun _ => 0), (ux_l [1]), (ux_l [(-1), (-1), (-1), (-1), (-1)]), (ux_l [3]), (ux_l [3]), (ux_l [1037, 39457, 48]), (ux_l [0, 77, 0, 1]), (ux_l [0]), (ux_l [1, 0, 0, 0]), (ux_l [(-1)]), (fun _ => 0))) : wpX_execute post (1, 1, 1, (-1), (-1), 3, 0, (ux_l [0, 0, 0, 0]), (ux_l [0, (-1), (-1)]), (ux_l [1]), (ux_l [1037, 39457, 48, 0]), (ux_l [2, 1, 1]), (ux_l [2, 3, 0]), (ux_l [0, 0, 0, 0, 0, 0]), (ux_l [0, 1, 1]), (ux_l [0, 0, 1]), (ux_l [3, x.toInt8.toInt32]), (ux_l [1, 2]), (ux_l [0, 0, 0]), (ux_l [2]), (ux_l [1]), (ux_l [0]), (ux_l [1]), (fun _ => 0), (fun _ => 0), (fun _ => 0), (fun _ => 0), (fun _ => 0), (ux_l [1]), (ux_l [(-1), (-1), (-1), (-1), (-1)]), (ux_l [2]), (ux_l [3]), (ux_l [1037, 39457, 48]), (ux_l [0, 77, 0, 0]), (ux_l [0]), (ux_l [1, 0, 0, 0]), (ux_l [(-1)]), (fun _ => 0)) p0 p1 := by
  subst h_p0
  subst h_p1
  refine nm_r (e' := 16) (by decide +kernel) ?_
  refine nm_r (e' := 1) (by decide +kernel) ?_
  refine nm_r (e' := 0) (by decide +kernel) ?_
  refine nm_r (e' := 0) (by decide +kernel) ?_
  refine And.intro (vp_in_iff.mpr (by decide +kernel)) ?_
  refine nm_r (e' := 77) (by decide +kernel) ?_
  refine And.intro (vp_in_iff.mpr (by decide +kernel)) ?_
  refine nm_r (e' := 0) (by decide +kernel) ?_
  refine And.intro (vp_in_iff.mpr (by decide +kernel)) ?_
  refine And.intro (vp_in_iff.mpr (by decide +kernel)) ?_
  refine nm_r (ux_up (l' := [3]) (k' := 0) (v' := 3) (by decide +kernel) (by decide +kernel) rfl) ?_
  refine br_f (by decide +kernel) ?_
  refine br_t (by decide +kernel) ?_
  refine br_t (by decide +kernel) ?_
  refine br_f (by decide +kernel) ?_
  refine br_f (by decide +kernel) ?_
  refine br_f (by decide +kernel) ?_
  refine br_t (by decide +kernel) ?_
  refine ux_write_2 h0 h14 h3 (by decide +kernel) (by decide +kernel) (by decide +kernel) ?_
  exact hp
theorem ux_work_2 {x : Int32} (h0 : ¬ x < 0) (h14 : ¬ 14 < x) (h3 : ¬ x = 3) {post : St2 → Prop} {p0 : Int32} (h_p0 : p0 = 0) (hp : post (3, 2, 1, (-1), (-1), 3, 0, (ux_l [0, 0, 0, 0, 0, 0, 0, 0]), (ux_l [0, 1, (-1)]), (ux_l [1, 1]), (ux_l [1037, 39457, 48, 0, 77, 0, 0, 0]), (ux_l [2, 1, 1]), (ux_l [2, 3, 1]), (ux_l [0, 0, 0, 0, 0, 0, 0, 0, 0, 0, 1]), (ux_l [0, 1, 1]), (ux_l [0, 0, 1]), (ux_l [3, x.toInt8.toInt32]), (ux_l [1, 2]), (ux_l [0, 0, 0]), (ux_l [2]), (ux_l [1]), (ux_l [1]), (ux_l [1]), (fun _ => 0), (fun _ => 0), (fun _ => 0), (fun _ => 0), (fun _ => 0), (ux_l [1]), (ux_l [(-1), (-1), (-1), (-1), (-1)]), (ux_l [3]), (ux_l [3]), (ux_l [1037, 39457, 48]), (ux_l [0, 77, 0, 1]), (ux_l [0]), (ux_l [1, 0, 0, 0]), (ux_l [(-1)]), (fun _ => 0))) : wpX_work post (1, 1, 1, (-1), (-1), 0, 0, (ux_l [0, 0, 0, 0]), (ux_l [0, (-1), (-1)]), (ux_l [1]), (ux_l [1037, 39457, 48, 0]), (ux_l [2, 1]), (ux_l [1, 3]), (ux_l [0, 0, 0, 0, 0, 0]), (ux_l [0, 1]), (ux_l [0, 0]), (ux_l [3]), (ux_l [1]), (ux_l [0, 0]), (fun _ => 0), (fun _ => 0), (fun _ => 0), (fun _ => 0), (fun _ => 0), (fun _ => 0), (fun _ => 0), (fun _ => 0), (fun _ => 0), (ux_l [1]), (ux_l [(-1), (-1), (-1), (-1), (-1)]), (ux_l [0]), (ux_l [3]), (ux_l [1037, 39457, 48]), (ux_l [x, 0, 0, 0]), (ux_l [0]), (ux_l [0, 0, 0, 0]), (ux_l [(-1)]), (fun _ => 0)) p0 := by
  subst h_p0
  refine Exists.intro 24 ?_
  refine br_f (by decide +kernel) ?_
  refine br_f (by decide +kernel) ?_
  refine And.intro (vp_in_iff.mpr (by decide +kernel)) ?_
  refine nm_r (e' := 0) (by decide +kernel) ?_
  refine br_f (by decide +kernel) ?_
  refine And.intro (vp_in_iff.mpr (by decide +kernel)) ?_
  refine br_t (by decide +kernel) ?_
  refine And.intro (vp_in_iff.mpr (by decide +kernel)) ?_
  refine And.intro (vp_in_iff.mpr (by decide +kernel)) ?_
  refine nm_r (e' := 1037) (by decide +kernel) ?_
  refine nm_r (e' := 13) (by decide +kernel) ?_
  refine br_f (by decide +kernel) ?_
  refine br_f (by decide +kernel) ?_
  refine br_f (by decide +kernel) ?_
  refine br_t (by decide +kernel) ?_
  refine nm_r (e' := 1) (by decide +kernel) ?_
  refine And.intro (vp_in_iff.mpr (by decide +kernel)) ?_
  refine nm_r (e' := 1037) (by decide +kernel) ?_
  refine ux_execute_4 h0 h14 h3 (by decide +kernel) (by decide +kernel) ?_
  refine And.intro (vp_in_iff.mpr (by decide +kernel)) ?_
  refine br_t (by decide +kernel) ?_
  refine br_f (by decide +kernel) ?_
  refine nm_r (e' := 1) (by decide +kernel) ?_
  refine br_f (by decide +kernel) ?_
  refine br_f (by decide +kernel) ?_
  refine And.intro (vp_in_iff.mpr (by decide +kernel)) ?_
  refine nm_r (e' := 1) (by decide +kernel) ?_
  refine br_f (by decide +kernel) ?_
  refine And.intro (vp_in_iff.mpr (by decide +kernel)) ?_
  refine br_t (by decide +kernel) ?_
  refine And.intro (vp_in_iff.mpr (by decide +kernel)) ?_
  refine And.intro (vp_in_iff.mpr (by decide +kernel)) ?_
  refine nm_r (e' := 39457) (by decide +kernel) ?_
  refine nm_r (e' := 1) (by decide +kernel) ?_
  refine br_f (by decide +kernel) ?_
  refine br_f (by decide +kernel) ?_
  refine br_f (by decide +kernel) ?_
  refine br_t (by decide +kernel) ?_
  refine nm_r (e' := 2) (by decide +kernel) ?_
  refine And.intro (vp_in_iff.mpr (by decide +kernel)) ?_
  refine nm_r (e' := 39457) (by decide +kernel) ?_
  refine ux_execute_5 h0 h14 h3 (by decide +kernel) (by decide +kernel) ?_
  refine And.intro (vp_in_iff.mpr (by decide +kernel)) ?_
  refine br_t (by decide +kernel) ?_
  refine br_f (by decide +kernel) ?_
  refine nm_r (e' := 2) (by decide +kernel) ?_
  refine br_f (by decide +kernel) ?_
  refine br_f (by decide +kernel) ?_
  refine And.intro (vp_in_iff.mpr (by decide +kernel)) ?_
  refine nm_r (e' := 2) (by decide +kernel) ?_
  refine br_f (by decide +kernel) ?_
  refine And.intro (vp_in_iff.mpr (by decide +kernel)) ?_
  refine br_t (by decide +kernel) ?_
  refine And.intro (vp_in_iff.mpr (by decide +kernel)) ?_
  refine And.intro (vp_in_iff.mpr (by decide +kernel)) ?_
  refine nm_r (e' := 48) (by decide +kernel) ?_
  refine nm_r (e' := 16) (by decide +kernel) ?_
  refine br_f (by decide +kernel) ?_
  refine br_f (by decide +kernel) ?_
  refine br_t (by decide +kernel) ?_
  refine And.intro (vp_in_iff.mpr (by decide +kernel)) ?_
  refine br_f (by decide +kernel) ?_
  refine br_t (by decide +kernel) ?_
  refine And.intro (vp_in_iff.mpr (by decide +kernel)) ?_
  refine br_t (by decide +kernel) ?_
  refine br_t (by decide +kernel) ?_
  refine nm_r (e' := 3) (by decide +kernel) ?_
  refine And.intro (vp_in_iff.mpr (by decide +kernel)) ?_
  refine nm_r (e' := 48) (by decide +kernel) ?_
  refine ux_execute_6 h0 h14 h3 (by decide +kernel) (by decide +kernel) ?_
  refine And.intro (vp_in_iff.mpr (by decide +kernel)) ?_
  refine br_t (by decide +kernel) ?_
  refine br_f (by decide +kernel) ?_
  refine nm_r (e' := 3) (by decide +kernel) ?_
  refine br_t (by decide +kernel) ?_
  exact hp
theorem ux_enqueue_4 {x : Int32} (h0 : ¬ x < 0) (h14 : ¬ 14 < x) (h3 : ¬ x = 3) {post : St2 → Prop} {p0 : Int32} (h_p0 : p0 = 0) (hp : post (3, 2, 1, 0, 0, 3, 0, (ux_l [0, 0, 0, 0, 0, 0, 0, 0]), (ux_l [0, 1, (-1)]), (ux_l [1, 1]), (ux_l [1037, 39457, 48, 0, 77, 0, 0, 0]), (ux_l [2, 1, 1]), (ux_l [2, 3, 1]), (ux_l [0, 0, 0, 0, 0, 0, 0, 0, 0, 0, 1]), (ux_l [0, 1, 1]), (ux_l [0, 0, 1]), (ux_l [3, x.toInt8.toInt32]), (ux_l [1, 2]), (ux_l [0, 0, 0]), (ux_l [2]), (ux_l [1]), (ux_l [1]), (ux_l [1]), (fun _ => 0), (fun _ => 0), (fun _ => 0), (fun _ => 0), (fun _ => 0), (ux_l [1]), (ux_l [(-1), (-1), (-1), (-1), (-1)]), (ux_l [3]), (ux_l [3]), (ux_l [1037, 39457, 48]), (ux_l [0, 77, 0, 1]), (ux_l [0]), (ux_l [1, 0, 0, 0]), (ux_l [(-1)]), (fun _ => 0))) : wpX_enqueue post (3, 2, 1, (-1), (-1), 3, 0, (ux_l [0, 0, 0, 0, 0, 0, 0, 0]), (ux_l [0, 1, (-1)]), (ux_l [1, 1]), (ux_l [1037, 39457, 48, 0, 77, 0, 0, 0]), (ux_l [2, 1, 1]), (ux_l [2, 3, 1]), (ux_l [0, 0, 0, 0, 0, 0, 0, 0, 0, 0, 1]), (ux_l [0, 1, 1]), (ux_l [0, 0, 1]), (ux_l [3, x.toInt8.toInt32]), (ux_l [1, 2]), (ux_l [0, 0, 0]), (ux_l [2]), (ux_l [1]), (ux_l [1]), (ux_l [1]), (fun _ => 0), (fun _ => 0), (fun _ => 0), (fun _ => 0), (fun _ => 0), (ux_l [1]), (ux_l [(-1), (-1), (-1), (-1), (-1)]), (ux_l [3]), (ux_l [3]), (ux_l [1037, 39457, 48]), (ux_l [0, 77, 0, 1]), (ux_l [0]), (ux_l [1, 0, 0, 0]), (ux_l [(-1)]), (fun _ => 0)) p0 := by
  subst h_p0
  refine And.intro (vp_in_iff.mpr (by decide +kernel)) ?_
  refine nm_r (ux_up (l' := [(-1)]) (k' := 0) (v' := (-1)) (by decide +kernel) (by decide +kernel) rfl) ?_
  refine br_t (by decide +kernel) ?_
  exact hp
theorem ux_turn_2 {x : Int32} (h0 : ¬ x < 0) (h14 : ¬ 14 < x) (h3 : ¬ x = 3) {post : Int32 → St2 → Prop} (hp : post 1 (3, 2, 1, 0, 0, 3, 0, (ux_l [0, 0, 0, 0, 0, 0, 0, 0]), (ux_l [0, 1, (-1)]), (ux_l [1, 1]), (ux_l [1037, 39457, 48, 0, 77, 0, 0, 0]), (ux_l [2, 1, 1]), (ux_l [2, 3, 1]), (ux_l [0, 0, 0, 0, 0, 0, 0, 0, 0, 0, 1]), (ux_l [0, 1, 1]), (ux_l [0, 0, 1]), (ux_l [3, x.toInt8.toInt32]), (ux_l [1, 2]), (ux_l [0, 0, 0]), (ux_l [2]), (ux_l [1]), (ux_l [1]), (ux_l [1]), (fun _ => 0), (fun _ => 0), (fun _ => 0), (fun _ => 0), (fun _ => 0), (ux_l [1]), (ux_l [(-1), (-1), (-1), (-1), (-1)]), (ux_l [3]), (ux_l [3]), (ux_l [1037, 39457, 48]), (ux_l [0, 77, 0, 1]), (ux_l [0]), (ux_l [1, 0, 0, 0]), (ux_l [(-1)]), (fun _ => 0))) : wpX_turn post (1, 1, 1, 0, 0, 0, 0, (ux_l [0, 0, 0, 0]), (ux_l [0, (-1), (-1)]), (ux_l [1]), (ux_l [1037, 39457, 48, 0]), (ux_l [2, 1]), (ux_l [1, 3]), (ux_l [0, 0, 0, 0, 0, 0]), (ux_l [0, 1]), (ux_l [0, 0]), (ux_l [3]), (ux_l [1]), (ux_l [0, 0]), (fun _ => 0), (fun _ => 0), (fun _ => 0), (fun _ => 0), (fun _ => 0), (fun _ => 0), (fun _ => 0), (fun _ => 0), (fun _ => 0), (ux_l [1]), (ux_l [(-1), (-1), (-1), (-1), (-1)]), (ux_l [0]), (ux_l [3]), (ux_l [1037, 39457, 48]), (ux_l [x, 0, 0, 0]), (ux_l [0]), (ux_l [0, 0, 0, 0]), (ux_l [(-1)]), (fun _ => 0)) := by
  refine Exists.intro 24 ?_
  refine br_f (by decide +kernel) ?_
  refine And.intro (vp_in_iff.mpr (by decide +kernel)) ?_
  refine br_f (by decide +kernel) ?_
  refine nm_r (e' := 1) (by decide +kernel) ?_
  refine br_f (by decide +kernel) ?_
  refine And.intro (vp_in_iff.mpr (by decide +kernel)) ?_
  refine br_f (by decide +kernel) ?_
  refine nm_r (e' := 2) (by decide +kernel) ?_
  refine br_f (by decide +kernel) ?_
  refine And.intro (vp_in_iff.mpr (by decide +kernel)) ?_
  refine br_f (by decide +kernel) ?_
  refine nm_r (e' := 3) (by decide +kernel) ?_
  refine br_f (by decide +kernel) ?_
  refine And.intro (vp_in_iff.mpr (by decide +kernel)) ?_
  refine br_f (by decide +kernel) ?_
  refine nm_r (e' := 4) (by decide +kernel) ?_
  refine br_f (by decide +kernel) ?_
  refine And.intro (vp_in_iff.mpr (by decide +kernel)) ?_
  refine br_f (by decide +kernel) ?_
  refine nm_r (e' := 5) (by decide +kernel) ?_
  refine br_t (by decide +kernel) ?_
  refine ux_dequeue_2 h0 h14 h3  ?_
  refine br_t (by decide +kernel) ?_
  refine ux_work_2 h0 h14 h3 (by decide +kernel) ?_
  refine And.intro (vp_in_iff.mpr (by decide +kernel)) ?_
  refine br_t (by decide +kernel) ?_
  refine ux_enqueue_4 h0 h14 h3 (by decide +kernel) ?_
  exact hp
theorem ux_run_2 {x : Int32} (h0 : ¬ x < 0) (h14 : ¬ 14 < x) (h3 : ¬ x = 3) {post : Int32 → St2 → Prop} {p0 : Int32} (h_p0 : p0 = 1) (hp : post 1 (3, 2, 1, 0, 0, 3, 0, (ux_l [0, 0, 0, 0, 0, 0, 0, 0]), (ux_l [0, 1, (-1)]), (ux_l [1, 1]), (ux_l [1037, 39457, 48, 0, 77, 0, 0, 0]), (ux_l [2, 1, 1]), (ux_l [2, 3, 1]), (ux_l [0, 0, 0, 0, 0, 0, 0, 0, 0, 0, 1]), (ux_l [0, 1, 1]), (ux_l [0, 0, 1]), (ux_l [3, x.toInt8.toInt32]), (ux_l [1, 2]), (ux_l [0, 0, 0]), (ux_l [2]), (ux_l [1]), (ux_l [1]), (ux_l [1]), (fun _ => 0), (fun _ => 0), (fun _ => 0), (fun _ => 0), (fun _ => 0), (ux_l [1]), (ux_l [(-1), (-1), (-1), (-1), (-1)]), (ux_l [3]), (ux_l [3]), (ux_l [1037, 39457, 48]), (ux_l [0, 77, 0, 1]), (ux_l [0]), (ux_l [1, 0, 0, 0]), (ux_l [(-1)]), (fun _ => 0))) : wpX_run post (1, 1, 1, 0, 0, 0, 0, (ux_l [0, 0, 0, 0]), (ux_l [0, (-1), (-1)]), (ux_l [1]), (ux_l [1037, 39457, 48, 0]), (ux_l [2, 1]), (ux_l [1, 3]), (ux_l [0, 0, 0, 0, 0, 0]), (ux_l [0, 1]), (ux_l [0, 0]), (ux_l [3]), (ux_l [1]), (ux_l [0, 0]), (fun _ => 0), (fun _ => 0), (fun _ => 0), (fun _ => 0), (fun _ => 0), (fun _ => 0), (fun _ => 0), (fun _ => 0), (fun _ => 0), (ux_l [1]), (ux_l [(-1), (-1), (-1), (-1), (-1)]), (ux_l [0]), (ux_l [3]), (ux_l [1037, 39457, 48]), (ux_l [x, 0, 0, 0]), (ux_l [0]), (ux_l [0, 0, 0, 0]), (ux_l [(-1)]), (fun _ => 0)) p0 := by
  subst h_p0
  refine br_t (by decide +kernel) ?_
  refine br_t (by decide +kernel) ?_
  refine Exists.intro 24 ?_
  refine br_f (by decide +kernel) ?_
  refine br_f (by decide +kernel) ?_
  refine ux_turn_2 h0 h14 h3  ?_
  refine br_f (by decide +kernel) ?_
  refine nm_r (e' := 1) (by decide +kernel) ?_
  refine br_t (by decide +kernel) ?_
  exact ek_v (P := fun r => post r (3, 2, 1, 0, 0, 3, 0, (ux_l [0, 0, 0, 0, 0, 0, 0, 0]), (ux_l [0, 1, (-1)]), (ux_l [1, 1]), (ux_l [1037, 39457, 48, 0, 77, 0, 0, 0]), (ux_l [2, 1, 1]), (ux_l [2, 3, 1]), (ux_l [0, 0, 0, 0, 0, 0, 0, 0, 0, 0, 1]), (ux_l [0, 1, 1]), (ux_l [0, 0, 1]), (ux_l [3, x.toInt8.toInt32]), (ux_l [1, 2]), (ux_l [0, 0, 0]), (ux_l [2]), (ux_l [1]), (ux_l [1]), (ux_l [1]), (fun _ => 0), (fun _ => 0), (fun _ => 0), (fun _ => 0), (fun _ => 0), (ux_l [1]), (ux_l [(-1), (-1), (-1), (-1), (-1)]), (ux_l [3]), (ux_l [3]), (ux_l [1037, 39457, 48]), (ux_l [0, 77, 0, 1]), (ux_l [0]), (ux_l [1, 0, 0, 0]), (ux_l [(-1)]), (fun _ => 0))) rfl hp
theorem ux_kind_2 {x : Int32} (h0 : ¬ x < 0) (h14 : ¬ 14 < x) (h3 : ¬ x = 3) {post : Int32 → Prop} {p0 : Int32} (h_p0 : p0 = 2) (hp : post 1) : wpX_kind post (3, 2, 1, 0, 0, 3, 0, (ux_l [0, 0, 0, 0, 0, 0, 0, 0]), (ux_l [0, 1, (-1)]), (ux_l [1, 1]), (ux_l [1037, 39457, 48, 0, 77, 0, 0, 0]), (ux_l [2, 1, 1]), (ux_l [2, 3, 1]), (ux_l [0, 0, 0, 0, 0, 0, 0, 0, 0, 0, 1]), (ux_l [0, 1, 1]), (ux_l [0, 0, 1]), (ux_l [3, x.toInt8.toInt32]), (ux_l [1, 2]), (ux_l [0, 0, 0]), (ux_l [2]), (ux_l [1]), (ux_l [1]), (ux_l [1]), (fun _ => 0), (fun _ => 0), (fun _ => 0), (fun _ => 0), (fun _ => 0), (ux_l [1]), (ux_l [(-1), (-1), (-1), (-1), (-1)]), (ux_l [3]), (ux_l [3]), (ux_l [1037, 39457, 48]), (ux_l [0, 77, 0, 1]), (ux_l [0]), (ux_l [1, 0, 0, 0]), (ux_l [(-1)]), (fun _ => 0)) p0 := by
  subst h_p0
  refine br_f (by decide +kernel) ?_
  refine br_f (by decide +kernel) ?_
  refine br_f (by decide +kernel) ?_
  refine And.intro (vp_in_iff.mpr (by decide +kernel)) ?_
  exact ek_v (P := fun r => post r ) rfl hp
theorem ux_slotFor_6 {x : Int32} (h0 : ¬ x < 0) (h14 : ¬ 14 < x) (h3 : ¬ x = 3) {post : Int32 → St2 → Prop} {p0 : Int32} (h_p0 : p0 = 1) (hp : post 1 (3, 2, 1, 0, 0, 3, 0, (ux_l [0, 0, 0, 0, 0, 0, 0, 0]), (ux_l [0, 1, (-1)]), (ux_l [1, 1]), (ux_l [1037, 39457, 48, 0, 77, 0, 0, 0]), (ux_l [2, 1, 1]), (ux_l [2, 3, 1]), (ux_l [0, 0, 0, 0, 0, 0, 0, 0, 0, 0, 1]), (ux_l [0, 1, 1]), (ux_l [0, 0, 1]), (ux_l [3, x.toInt8.toInt32]), (ux_l [1, 2]), (ux_l [0, 0, 0]), (ux_l [2]), (ux_l [1]), (ux_l [1]), (ux_l [1]), (fun _ => 0), (fun _ => 0), (fun _ => 0), (fun _ => 0), (fun _ => 0), (ux_l [1]), (ux_l [(-1), (-1), (-1), (-1), (-1)]), (ux_l [3]), (ux_l [3]), (ux_l [1037, 39457, 48]), (ux_l [0, 77, 0, 1]), (ux_l [0]), (ux_l [1, 0, 0, 0]), (ux_l [(-1)]), (fun _ => 0))) : wpX_slotFor post (3, 2, 1, 0, 0, 3, 0, (ux_l [0, 0, 0, 0, 0, 0, 0, 0]), (ux_l [0, 1, (-1)]), (ux_l [1, 1]), (ux_l [1037, 39457, 48, 0, 77, 0, 0, 0]), (ux_l [2, 1, 1]), (ux_l [2, 3, 1]), (ux_l [0, 0, 0, 0, 0, 0, 0, 0, 0, 0, 1]), (ux_l [0, 1, 1]), (ux_l [0, 0, 1]), (ux_l [3, x.toInt8.toInt32]), (ux_l [1, 2]), (ux_l [0, 0, 0]), (ux_l [2]), (ux_l [1]), (ux_l [1]), (ux_l [1]), (fun _ => 0), (fun _ => 0), (fun _ => 0), (fun _ => 0), (fun _ => 0), (ux_l [1]), (ux_l [(-1), (-1), (-1), (-1), (-1)]), (ux_l [3]), (ux_l [3]), (ux_l [1037, 39457, 48]), (ux_l [0, 77, 0, 1]), (ux_l [0]), (ux_l [1, 0, 0, 0]), (ux_l [(-1)]), (fun _ => 0)) p0 := by
  subst h_p0
  refine Exists.intro 24 ?_
  refine br_f (by decide +kernel) ?_
  refine And.intro (vp_in_iff.mpr (by decide +kernel)) ?_
  refine br_f (by decide +kernel) ?_
  refine nm_r (e' := 1) (by decide +kernel) ?_
  refine br_f (by decide +kernel) ?_
  refine And.intro (vp_in_iff.mpr (by decide +kernel)) ?_
  refine br_t (by decide +kernel) ?_
  exact ek_v (P := fun r => post r (3, 2, 1, 0, 0, 3, 0, (ux_l [0, 0, 0, 0, 0, 0, 0, 0]), (ux_l [0, 1, (-1)]), (ux_l [1, 1]), (ux_l [1037, 39457, 48, 0, 77, 0, 0, 0]), (ux_l [2, 1, 1]), (ux_l [2, 3, 1]), (ux_l [0, 0, 0, 0, 0, 0, 0, 0, 0, 0, 1]), (ux_l [0, 1, 1]), (ux_l [0, 0, 1]), (ux_l [3, x.toInt8.toInt32]), (ux_l [1, 2]), (ux_l [0, 0, 0]), (ux_l [2]), (ux_l [1]), (ux_l [1]), (ux_l [1]), (fun _ => 0), (fun _ => 0), (fun _ => 0), (fun _ => 0), (fun _ => 0), (ux_l [1]), (ux_l [(-1), (-1), (-1), (-1), (-1)]), (ux_l [3]), (ux_l [3]), (ux_l [1037, 39457, 48]), (ux_l [0, 77, 0, 1]), (ux_l [0]), (ux_l [1, 0, 0, 0]), (ux_l [(-1)]), (fun _ => 0))) rfl hp
theorem ux_wordAt_3_1 {x : Int32} (h0 : ¬ x < 0) (h14 : ¬ 14 < x) (h3 : ¬ x = 3) {post : Int32 → St2 → Prop} {p0 : Int32} {p1 : Int32} (h_p0 : p0 = 2) (h_p1 : p1 = 0) (hp : post 77 (3, 2, 1, 0, 0, 3, 0, (ux_l [0, 0, 0, 0, 0, 0, 0, 0]), (ux_l [0, 1, (-1)]), (ux_l [1, 1]), (ux_l [1037, 39457, 48, 0, 77, 0, 0, 0]), (ux_l [2, 1, 1]), (ux_l [2, 3, 1]), (ux_l [0, 0, 0, 0, 0, 0, 0, 0, 0, 0, 1]), (ux_l [0, 1, 1]), (ux_l [0, 0, 1]), (ux_l [3, x.toInt8.toInt32]), (ux_l [1, 2]), (ux_l [0, 0, 0]), (ux_l [2]), (ux_l [1]), (ux_l [1]), (ux_l [1]), (fun _ => 0), (fun _ => 0), (fun _ => 0), (fun _ => 0), (fun _ => 0), (ux_l [1]), (ux_l [(-1), (-1), (-1), (-1), (-1)]), (ux_l [3]), (ux_l [3]), (ux_l [1037, 39457, 48]), (ux_l [0, 77, 0, 1]), (ux_l [0]), (ux_l [1, 0, 0, 0]), (ux_l [(-1)]), (fun _ => 0))) : wpX_wordAt_3 post (3, 2, 1, 0, 0, 3, 0, (ux_l [0, 0, 0, 0, 0, 0, 0, 0]), (ux_l [0, 1, (-1)]), (ux_l [1, 1]), (ux_l [1037, 39457, 48, 0, 77, 0, 0, 0]), (ux_l [2, 1, 1]), (ux_l [2, 3, 1]), (ux_l [0, 0, 0, 0, 0, 0, 0, 0, 0, 0, 1]), (ux_l [0, 1, 1]), (ux_l [0, 0, 1]), (ux_l [3, x.toInt8.toInt32]), (ux_l [1, 2]), (ux_l [0, 0, 0]), (ux_l [2]), (ux_l [1]), (ux_l [1]), (ux_l [1]), (fun _ => 0), (fun _ => 0), (fun _ => 0), (fun _ => 0), (fun _ => 0), (ux_l [1]), (ux_l [(-1), (-1), (-1), (-1), (-1)]), (ux_l [3]), (ux_l [3]), (ux_l [1037, 39457, 48]), (ux_l [0, 77, 0, 1]), (ux_l [0]), (ux_l [1, 0, 0, 0]), (ux_l [(-1)]), (fun _ => 0)) p0 p1 := by
  subst h_p0
  subst h_p1
  refine And.intro (by decide +kernel) ?_
  refine And.intro (vp_in_iff.mpr (by decide +kernel)) ?_
  refine nm_r (e' := 1) (by decide +kernel) ?_
  refine br_f (by decide +kernel) ?_
  refine ux_slotFor_6 h0 h14 h3 (by decide +kernel) ?_
  refine And.intro (by decide +kernel) ?_
  refine And.intro (vp_in_iff.mpr (by decide +kernel)) ?_
  exact ek_v (P := fun r => post r (3, 2, 1, 0, 0, 3, 0, (ux_l [0, 0, 0, 0, 0, 0, 0, 0]), (ux_l [0, 1, (-1)]), (ux_l [1, 1]), (ux_l [1037, 39457, 48, 0, 77, 0, 0, 0]), (ux_l [2, 1, 1]), (ux_l [2, 3, 1]), (ux_l [0, 0, 0, 0, 0, 0, 0, 0, 0, 0, 1]), (ux_l [0, 1, 1]), (ux_l [0, 0, 1]), (ux_l [3, x.toInt8.toInt32]), (ux_l [1, 2]), (ux_l [0, 0, 0]), (ux_l [2]), (ux_l [1]), (ux_l [1]), (ux_l [1]), (fun _ => 0), (fun _ => 0), (fun _ => 0), (fun _ => 0), (fun _ => 0), (ux_l [1]), (ux_l [(-1), (-1), (-1), (-1), (-1)]), (ux_l [3]), (ux_l [3]), (ux_l [1037, 39457, 48]), (ux_l [0, 77, 0, 1]), (ux_l [0]), (ux_l [1, 0, 0, 0]), (ux_l [(-1)]), (fun _ => 0))) rfl hp
theorem ux_word_2 {x : Int32} (h0 : ¬ x < 0) (h14 : ¬ 14 < x) (h3 : ¬ x = 3) {post : Int32 → St2 → Prop} {p0 : Int32} {p1 : Int32} (h_p0 : p0 = 2) (h_p1 : p1 = 0) (hp : post 77 (3, 2, 1, 0, 0, 3, 0, (ux_l [0, 0, 0, 0, 0, 0, 0, 0]), (ux_l [0, 1, (-1)]), (ux_l [1, 1]), (ux_l [1037, 39457, 48, 0, 77, 0, 0, 0]), (ux_l [2, 1, 1]), (ux_l [2, 3, 1]), (ux_l [0, 0, 0, 0, 0, 0, 0, 0, 0, 0, 1]), (ux_l [0, 1, 1]), (ux_l [0, 0, 1]), (ux_l [3, x.toInt8.toInt32]), (ux_l [1, 2]), (ux_l [0, 0, 0]), (ux_l [2]), (ux_l [1]), (ux_l [1]), (ux_l [1]), (fun _ => 0), (fun _ => 0), (fun _ => 0), (fun _ => 0), (fun _ => 0), (ux_l [1]), (ux_l [(-1), (-1), (-1), (-1), (-1)]), (ux_l [3]), (ux_l [3]), (ux_l [1037, 39457, 48]), (ux_l [0, 77, 0, 1]), (ux_l [0]), (ux_l [1, 0, 0, 0]), (ux_l [(-1)]), (fun _ => 0))) : wpX_word post (3, 2, 1, 0, 0, 3, 0, (ux_l [0, 0, 0, 0, 0, 0, 0, 0]), (ux_l [0, 1, (-1)]), (ux_l [1, 1]), (ux_l [1037, 39457, 48, 0, 77, 0, 0, 0]), (ux_l [2, 1, 1]), (ux_l [2, 3, 1]), (ux_l [0, 0, 0, 0, 0, 0, 0, 0, 0, 0, 1]), (ux_l [0, 1, 1]), (ux_l [0, 0, 1]), (ux_l [3, x.toInt8.toInt32]), (ux_l [1, 2]), (ux_l [0, 0, 0]), (ux_l [2]), (ux_l [1]), (ux_l [1]), (ux_l [1]), (fun _ => 0), (fun _ => 0), (fun _ => 0), (fun _ => 0), (fun _ => 0), (ux_l [1]), (ux_l [(-1), (-1), (-1), (-1), (-1)]), (ux_l [3]), (ux_l [3]), (ux_l [1037, 39457, 48]), (ux_l [0, 77, 0, 1]), (ux_l [0]), (ux_l [1, 0, 0, 0]), (ux_l [(-1)]), (fun _ => 0)) p0 p1 := by
  subst h_p0
  subst h_p1
  refine br_f (by decide +kernel) ?_
  refine br_f (by decide +kernel) ?_
  refine br_f (by decide +kernel) ?_
  refine And.intro (vp_in_iff.mpr (by decide +kernel)) ?_
  refine br_t (by decide +kernel) ?_
  refine br_f (by decide +kernel) ?_
  refine And.intro (vp_in_iff.mpr (by decide +kernel)) ?_
  refine br_t (by decide +kernel) ?_
  refine ux_wordAt_3_1 h0 h14 h3 (by decide +kernel) (by decide +kernel) ?_
  exact ek_v (P := fun r => post r (3, 2, 1, 0, 0, 3, 0, (ux_l [0, 0, 0, 0, 0, 0, 0, 0]), (ux_l [0, 1, (-1)]), (ux_l [1, 1]), (ux_l [1037, 39457, 48, 0, 77, 0, 0, 0]), (ux_l [2, 1, 1]), (ux_l [2, 3, 1]), (ux_l [0, 0, 0, 0, 0, 0, 0, 0, 0, 0, 1]), (ux_l [0, 1, 1]), (ux_l [0, 0, 1]), (ux_l [3, x.toInt8.toInt32]), (ux_l [1, 2]), (ux_l [0, 0, 0]), (ux_l [2]), (ux_l [1]), (ux_l [1]), (ux_l [1]), (fun _ => 0), (fun _ => 0), (fun _ => 0), (fun _ => 0), (fun _ => 0), (ux_l [1]), (ux_l [(-1), (-1), (-1), (-1), (-1)]), (ux_l [3]), (ux_l [3]), (ux_l [1037, 39457, 48]), (ux_l [0, 77, 0, 1]), (ux_l [0]), (ux_l [1, 0, 0, 0]), (ux_l [(-1)]), (fun _ => 0))) rfl hp
theorem ux_descriptor_2 {x : Int32} (h0 : ¬ x < 0) (h14 : ¬ 14 < x) (h3 : ¬ x = 3) {post : Int32 → Prop} {p0 : Int32} {p1 : Int32} (h_p0 : p0 = 0) (h_p1 : p1 = 0) (hp : post 17) : wpX_descriptor post (3, 2, 1, 0, 0, 3, 0, (ux_l [0, 0, 0, 0, 0, 0, 0, 0]), (ux_l [0, 1, (-1)]), (ux_l [1, 1]), (ux_l [1037, 39457, 48, 0, 77, 0, 0, 0]), (ux_l [2, 1, 1]), (ux_l [2, 3, 1]), (ux_l [0, 0, 0, 0, 0, 0, 0, 0, 0, 0, 1]), (ux_l [0, 1, 1]), (ux_l [0, 0, 1]), (ux_l [3, x.toInt8.toInt32]), (ux_l [1, 2]), (ux_l [0, 0, 0]), (ux_l [2]), (ux_l [1]), (ux_l [1]), (ux_l [1]), (fun _ => 0), (fun _ => 0), (fun _ => 0), (fun _ => 0), (fun _ => 0), (ux_l [1]), (ux_l [(-1), (-1), (-1), (-1), (-1)]), (ux_l [3]), (ux_l [3]), (ux_l [1037, 39457, 48]), (ux_l [0, 77, 0, 1]), (ux_l [0]), (ux_l [1, 0, 0, 0]), (ux_l [(-1)]), (fun _ => 0)) p0 p1 := by
  subst h_p0
  subst h_p1
  refine br_f (by decide +kernel) ?_
  refine br_f (by decide +kernel) ?_
  refine br_f (by decide +kernel) ?_
  refine And.intro (vp_in_iff.mpr (by decide +kernel)) ?_
  refine br_t (by decide +kernel) ?_
  refine br_f (by decide +kernel) ?_
  refine br_f (by decide +kernel) ?_
  refine br_t (by decide +kernel) ?_
  refine And.intro (vp_in_iff.mpr (by decide +kernel)) ?_
  refine nm_r (e' := 1) (by decide +kernel) ?_
  refine br_f (by decide +kernel) ?_
  refine br_t (by decide +kernel) ?_
  refine And.intro (vp_in_iff.mpr (by decide +kernel)) ?_
  exact ek_v (P := fun r => post r ) rfl hp
theorem ux_size_2 {x : Int32} (h0 : ¬ x < 0) (h14 : ¬ 14 < x) (h3 : ¬ x = 3) {post : Int32 → Prop} {p0 : Int32} (h_p0 : p0 = 1) (hp : post 3) : wpX_size post (3, 2, 1, 0, 0, 3, 0, (ux_l [0, 0, 0, 0, 0, 0, 0, 0]), (ux_l [0, 1, (-1)]), (ux_l [1, 1]), (ux_l [1037, 39457, 48, 0, 77, 0, 0, 0]), (ux_l [2, 1, 1]), (ux_l [2, 3, 1]), (ux_l [0, 0, 0, 0, 0, 0, 0, 0, 0, 0, 1]), (ux_l [0, 1, 1]), (ux_l [0, 0, 1]), (ux_l [3, x.toInt8.toInt32]), (ux_l [1, 2]), (ux_l [0, 0, 0]), (ux_l [2]), (ux_l [1]), (ux_l [1]), (ux_l [1]), (fun _ => 0), (fun _ => 0), (fun _ => 0), (fun _ => 0), (fun _ => 0), (ux_l [1]), (ux_l [(-1), (-1), (-1), (-1), (-1)]), (ux_l [3]), (ux_l [3]), (ux_l [1037, 39457, 48]), (ux_l [0, 77, 0, 1]), (ux_l [0]), (ux_l [1, 0, 0, 0]), (ux_l [(-1)]), (fun _ => 0)) p0 := by
  subst h_p0
  refine br_f (by decide +kernel) ?_
  refine br_f (by decide +kernel) ?_
  refine br_f (by decide +kernel) ?_
  refine And.intro (vp_in_iff.mpr (by decide +kernel)) ?_
  refine br_f (by decide +kernel) ?_
  refine And.intro (vp_in_iff.mpr (by decide +kernel)) ?_
  exact ek_v (P := fun r => post r ) rfl hp
theorem ux_register_2 {x : Int32} (h0 : ¬ x < 0) (h14 : ¬ 14 < x) (h3 : ¬ x = 3) {post : Int32 → Prop} {p0 : Int32} {p1 : Int32} (h_p0 : p0 = 0) (h_p1 : p1 = 3) (hp : post 1) : wpX_register post (3, 2, 1, 0, 0, 3, 0, (ux_l [0, 0, 0, 0, 0, 0, 0, 0]), (ux_l [0, 1, (-1)]), (ux_l [1, 1]), (ux_l [1037, 39457, 48, 0, 77, 0, 0, 0]), (ux_l [2, 1, 1]), (ux_l [2, 3, 1]), (ux_l [0, 0, 0, 0, 0, 0, 0, 0, 0, 0, 1]), (ux_l [0, 1, 1]), (ux_l [0, 0, 1]), (ux_l [3, x.toInt8.toInt32]), (ux_l [1, 2]), (ux_l [0, 0, 0]), (ux_l [2]), (ux_l [1]), (ux_l [1]), (ux_l [1]), (fun _ => 0), (fun _ => 0), (fun _ => 0), (fun _ => 0), (fun _ => 0), (ux_l [1]), (ux_l [(-1), (-1), (-1), (-1), (-1)]), (ux_l [3]), (ux_l [3]), (ux_l [1037, 39457, 48]), (ux_l [0, 77, 0, 1]), (ux_l [0]), (ux_l [1, 0, 0, 0]), (ux_l [(-1)]), (fun _ => 0)) p0 p1 := by
  subst h_p0
  subst h_p1
  refine br_f (by decide +kernel) ?_
  refine br_f (by decide +kernel) ?_
  refine br_f (by decide +kernel) ?_
  refine And.intro (vp_in_iff.mpr (by decide +kernel)) ?_
  refine br_t (by decide +kernel) ?_
  refine br_f (by decide +kernel) ?_
  refine br_f (by decide +kernel) ?_
  refine br_f (by decide +kernel) ?_
  refine And.intro (vp_in_iff.mpr (by decide +kernel)) ?_
  exact ek_v (P := fun r => post r ) rfl hp
theorem ux_fits {x : Int32} (h0 : ¬ x < 0) (h14 : ¬ 14 < x) (h3 : ¬ x = 3) : wpL_lawOf (fun r _ => r = 1) 320 5120 () x := by
  refine br_f h0 ?_
  refine br_f h14 ?_
  refine br_f h3 ?_
  refine And.intro (by decide +kernel) ?_
  refine And.intro (by decide +kernel) ?_
  refine Exists.intro 31 ?_
  refine Exists.intro 680 ?_
  refine And.intro (by decide +kernel) ?_
  refine And.intro (by decide +kernel) ?_
  refine ux_init_1  ?_
  refine ux_file_1 (by decide +kernel) (by decide +kernel) (by decide +kernel) ?_
  refine br_t (by decide +kernel) ?_
  refine ux_file_2 (by decide +kernel) (by decide +kernel) (by decide +kernel) ?_
  refine br_t (by decide +kernel) ?_
  refine ux_file_3 (by decide +kernel) (by decide +kernel) (by decide +kernel) ?_
  refine br_t (by decide +kernel) ?_
  refine ux_spawn_2 h0 h14 h3 (by decide +kernel) ?_
  refine br_t (by decide +kernel) ?_
  refine ux_run_2 h0 h14 h3 (by decide +kernel) ?_
  refine br_t (by decide +kernel) ?_
  refine ux_kind_2 h0 h14 h3 (by decide +kernel) ?_
  refine br_f (by decide +kernel) ?_
  refine br_t (by decide +kernel) ?_
  refine ux_word_2 h0 h14 h3 (by decide +kernel) (by decide +kernel) ?_
  refine br_f (by decide +kernel) ?_
  refine br_t (by decide +kernel) ?_
  refine ux_descriptor_2 h0 h14 h3 (by decide +kernel) (by decide +kernel) ?_
  refine br_f (by decide +kernel) ?_
  refine br_t (by decide +kernel) ?_
  refine ux_size_2 h0 h14 h3 (by decide +kernel) ?_
  refine br_f h3 ?_
  refine br_t (by decide +kernel) ?_
  refine ux_register_2 h0 h14 h3 (by decide +kernel) (by decide +kernel) ?_
  refine br_f (by decide +kernel) ?_
  refine br_t (by decide +kernel) ?_
  exact rfl
end
section
theorem ux_slotFor_2_7 {x : Int32} (h0 : x < 0) {post : Int32 → St2 → Prop} {p0 : Int32} (h_p0 : p0 = 0) (hp : post 0 (1, 1, 1, (-1), (-1), 0, 0, (ux_l [0, 0, 0, 0]), (ux_l [0, (-1), (-1)]), (ux_l [1]), (ux_l [1037, 39457, 48, 0]), (ux_l [2, 1]), (ux_l [1, 3]), (ux_l [0, 0, 0, 0, 0, 0]), (ux_l [0, 1]), (ux_l [0, 0]), (ux_l [3]), (ux_l [1]), (ux_l [0, 0]), (fun _ => 0), (fun _ => 0), (fun _ => 0), (fun _ => 0), (fun _ => 0), (fun _ => 0), (fun _ => 0), (fun _ => 0), (fun _ => 0), (fun _ => 0), (ux_l [(-1), (-1), (-1), (-1), (-1)]), (fun _ => 0), (ux_l [3]), (fun _ => 0), (ux_l [x, 0, 0, 0]), (ux_l [0]), (ux_l [0, 0, 0, 0]), (fun _ => 0), (fun _ => 0))) : wpX_slotFor_2 post (1, 1, 1, (-1), (-1), 0, 0, (ux_l [0, 0, 0, 0]), (ux_l [0, (-1), (-1)]), (ux_l [1]), (ux_l [1037, 39457, 48, 0]), (ux_l [2, 1]), (ux_l [1, 3]), (ux_l [0, 0, 0, 0, 0, 0]), (ux_l [0, 1]), (ux_l [0, 0]), (ux_l [3]), (ux_l [1]), (ux_l [0, 0]), (fun _ => 0), (fun _ => 0), (fun _ => 0), (fun _ => 0), (fun _ => 0), (fun _ => 0), (fun _ => 0), (fun _ => 0), (fun _ => 0), (fun _ => 0), (ux_l [(-1), (-1), (-1), (-1), (-1)]), (fun _ => 0), (ux_l [3]), (fun _ => 0), (ux_l [x, 0, 0, 0]), (ux_l [0]), (ux_l [0, 0, 0, 0]), (fun _ => 0), (fun _ => 0)) p0 := by
  subst h_p0
  refine Exists.intro 24 ?_
  refine br_f (by decide +kernel) ?_
  refine And.intro (vp_in_iff.mpr (by decide +kernel)) ?_
  refine br_t (by decide +kernel) ?_
  exact ek_v (P := fun r => post r (1, 1, 1, (-1), (-1), 0, 0, (ux_l [0, 0, 0, 0]), (ux_l [0, (-1), (-1)]), (ux_l [1]), (ux_l [1037, 39457, 48, 0]), (ux_l [2, 1]), (ux_l [1, 3]), (ux_l [0, 0, 0, 0, 0, 0]), (ux_l [0, 1]), (ux_l [0, 0]), (ux_l [3]), (ux_l [1]), (ux_l [0, 0]), (fun _ => 0), (fun _ => 0), (fun _ => 0), (fun _ => 0), (fun _ => 0), (fun _ => 0), (fun _ => 0), (fun _ => 0), (fun _ => 0), (fun _ => 0), (ux_l [(-1), (-1), (-1), (-1), (-1)]), (fun _ => 0), (ux_l [3]), (fun _ => 0), (ux_l [x, 0, 0, 0]), (ux_l [0]), (ux_l [0, 0, 0, 0]), (fun _ => 0), (fun _ => 0))) rfl hp
theorem ux_wordAt_7 {x : Int32} (h0 : x < 0) {post : Int32 → St2 → Prop} {p0 : Int32} {p1 : Int32} (h_p0 : p0 = 1) (h_p1 : p1 = 0) (hp : post 1037 (1, 1, 1, (-1), (-1), 0, 0, (ux_l [0, 0, 0, 0]), (ux_l [0, (-1), (-1)]), (ux_l [1]), (ux_l [1037, 39457, 48, 0]), (ux_l [2, 1]), (ux_l [1, 3]), (ux_l [0, 0, 0, 0, 0, 0]), (ux_l [0, 1]), (ux_l [0, 0]), (ux_l [3]), (ux_l [1]), (ux_l [0, 0]), (fun _ => 0), (fun _ => 0), (fun _ => 0), (fun _ => 0), (fun _ => 0), (fun _ => 0), (fun _ => 0), (fun _ => 0), (fun _ => 0), (fun _ => 0), (ux_l [(-1), (-1), (-1), (-1), (-1)]), (fun _ => 0), (ux_l [3]), (fun _ => 0), (ux_l [x, 0, 0, 0]), (ux_l [0]), (ux_l [0, 0, 0, 0]), (fun _ => 0), (fun _ => 0))) : wpX_wordAt post (1, 1, 1, (-1), (-1), 0, 0, (ux_l [0, 0, 0, 0]), (ux_l [0, (-1), (-1)]), (ux_l [1]), (ux_l [1037, 39457, 48, 0]), (ux_l [2, 1]), (ux_l [1, 3]), (ux_l [0, 0, 0, 0, 0, 0]), (ux_l [0, 1]), (ux_l [0, 0]), (ux_l [3]), (ux_l [1]), (ux_l [0, 0]), (fun _ => 0), (fun _ => 0), (fun _ => 0), (fun _ => 0), (fun _ => 0), (fun _ => 0), (fun _ => 0), (fun _ => 0), (fun _ => 0), (fun _ => 0), (ux_l [(-1), (-1), (-1), (-1), (-1)]), (fun _ => 0), (ux_l [3]), (fun _ => 0), (ux_l [x, 0, 0, 0]), (ux_l [0]), (ux_l [0, 0, 0, 0]), (fun _ => 0), (fun _ => 0)) p0 p1 := by
  subst h_p0
  subst h_p1
  refine And.intro (by decide +kernel) ?_
  refine And.intro (vp_in_iff.mpr (by decide +kernel)) ?_
  refine nm_r (e' := 0) (by decide +kernel) ?_
  refine br_f (by decide +kernel) ?_
  refine ux_slotFor_2_7 h0 (by decide +kernel) ?_
  refine And.intro (by decide +kernel) ?_
  refine And.intro (vp_in_iff.mpr (by decide +kernel)) ?_
  exact ek_v (P := fun r => post r (1, 1, 1, (-1), (-1), 0, 0, (ux_l [0, 0, 0, 0]), (ux_l [0, (-1), (-1)]), (ux_l [1]), (ux_l [1037, 39457, 48, 0]), (ux_l [2, 1]), (ux_l [1, 3]), (ux_l [0, 0, 0, 0, 0, 0]), (ux_l [0, 1]), (ux_l [0, 0]), (ux_l [3]), (ux_l [1]), (ux_l [0, 0]), (fun _ => 0), (fun _ => 0), (fun _ => 0), (fun _ => 0), (fun _ => 0), (fun _ => 0), (fun _ => 0), (fun _ => 0), (fun _ => 0), (fun _ => 0), (ux_l [(-1), (-1), (-1), (-1), (-1)]), (fun _ => 0), (ux_l [3]), (fun _ => 0), (ux_l [x, 0, 0, 0]), (ux_l [0]), (ux_l [0, 0, 0, 0]), (fun _ => 0), (fun _ => 0))) rfl hp
theorem ux_slotFor_2_8 {x : Int32} (h0 : x < 0) {post : Int32 → St2 → Prop} {p0 : Int32} (h_p0 : p0 = 0) (hp : post 0 (1, 1, 1, (-1), (-1), 0, 0, (ux_l [0, 0, 0, 0]), (ux_l [0, (-1), (-1)]), (ux_l [1]), (ux_l [1037, 39457, 48, 0]), (ux_l [2, 1]), (ux_l [1, 3]), (ux_l [0, 0, 0, 0, 0, 0]), (ux_l [0, 1]), (ux_l [0, 0]), (ux_l [3]), (ux_l [1]), (ux_l [0, 0]), (fun _ => 0), (fun _ => 0), (fun _ => 0), (fun _ => 0), (fun _ => 0), (fun _ => 0), (fun _ => 0), (fun _ => 0), (fun _ => 0), (fun _ => 0), (ux_l [(-1), (-1), (-1), (-1), (-1)]), (fun _ => 0), (ux_l [3]), (ux_l [1037]), (ux_l [x, 0, 0, 0]), (ux_l [0]), (ux_l [0, 0, 0, 0]), (fun _ => 0), (fun _ => 0))) : wpX_slotFor_2 post (1, 1, 1, (-1), (-1), 0, 0, (ux_l [0, 0, 0, 0]), (ux_l [0, (-1), (-1)]), (ux_l [1]), (ux_l [1037, 39457, 48, 0]), (ux_l [2, 1]), (ux_l [1, 3]), (ux_l [0, 0, 0, 0, 0, 0]), (ux_l [0, 1]), (ux_l [0, 0]), (ux_l [3]), (ux_l [1]), (ux_l [0, 0]), (fun _ => 0), (fun _ => 0), (fun _ => 0), (fun _ => 0), (fun _ => 0), (fun _ => 0), (fun _ => 0), (fun _ => 0), (fun _ => 0), (fun _ => 0), (ux_l [(-1), (-1), (-1), (-1), (-1)]), (fun _ => 0), (ux_l [3]), (ux_l [1037]), (ux_l [x, 0, 0, 0]), (ux_l [0]), (ux_l [0, 0, 0, 0]), (fun _ => 0), (fun _ => 0)) p0 := by
  subst h_p0
  refine Exists.intro 24 ?_
  refine br_f (by decide +kernel) ?_
  refine And.intro (vp_in_iff.mpr (by decide +kernel)) ?_
  refine br_t (by decide +kernel) ?_
  exact ek_v (P := fun r => post r (1, 1, 1, (-1), (-1), 0, 0, (ux_l [0, 0, 0, 0]), (ux_l [0, (-1), (-1)]), (ux_l [1]), (ux_l [1037, 39457, 48, 0]), (ux_l [2, 1]), (ux_l [1, 3]), (ux_l [0, 0, 0, 0, 0, 0]), (ux_l [0, 1]), (ux_l [0, 0]), (ux_l [3]), (ux_l [1]), (ux_l [0, 0]), (fun _ => 0), (fun _ => 0), (fun _ => 0), (fun _ => 0), (fun _ => 0), (fun _ => 0), (fun _ => 0), (fun _ => 0), (fun _ => 0), (fun _ => 0), (ux_l [(-1), (-1), (-1), (-1), (-1)]), (fun _ => 0), (ux_l [3]), (ux_l [1037]), (ux_l [x, 0, 0, 0]), (ux_l [0]), (ux_l [0, 0, 0, 0]), (fun _ => 0), (fun _ => 0))) rfl hp
theorem ux_wordAt_8 {x : Int32} (h0 : x < 0) {post : Int32 → St2 → Prop} {p0 : Int32} {p1 : Int32} (h_p0 : p0 = 1) (h_p1 : p1 = 1) (hp : post 39457 (1, 1, 1, (-1), (-1), 0, 0, (ux_l [0, 0, 0, 0]), (ux_l [0, (-1), (-1)]), (ux_l [1]), (ux_l [1037, 39457, 48, 0]), (ux_l [2, 1]), (ux_l [1, 3]), (ux_l [0, 0, 0, 0, 0, 0]), (ux_l [0, 1]), (ux_l [0, 0]), (ux_l [3]), (ux_l [1]), (ux_l [0, 0]), (fun _ => 0), (fun _ => 0), (fun _ => 0), (fun _ => 0), (fun _ => 0), (fun _ => 0), (fun _ => 0), (fun _ => 0), (fun _ => 0), (fun _ => 0), (ux_l [(-1), (-1), (-1), (-1), (-1)]), (fun _ => 0), (ux_l [3]), (ux_l [1037]), (ux_l [x, 0, 0, 0]), (ux_l [0]), (ux_l [0, 0, 0, 0]), (fun _ => 0), (fun _ => 0))) : wpX_wordAt post (1, 1, 1, (-1), (-1), 0, 0, (ux_l [0, 0, 0, 0]), (ux_l [0, (-1), (-1)]), (ux_l [1]), (ux_l [1037, 39457, 48, 0]), (ux_l [2, 1]), (ux_l [1, 3]), (ux_l [0, 0, 0, 0, 0, 0]), (ux_l [0, 1]), (ux_l [0, 0]), (ux_l [3]), (ux_l [1]), (ux_l [0, 0]), (fun _ => 0), (fun _ => 0), (fun _ => 0), (fun _ => 0), (fun _ => 0), (fun _ => 0), (fun _ => 0), (fun _ => 0), (fun _ => 0), (fun _ => 0), (ux_l [(-1), (-1), (-1), (-1), (-1)]), (fun _ => 0), (ux_l [3]), (ux_l [1037]), (ux_l [x, 0, 0, 0]), (ux_l [0]), (ux_l [0, 0, 0, 0]), (fun _ => 0), (fun _ => 0)) p0 p1 := by
  subst h_p0
  subst h_p1
  refine And.intro (by decide +kernel) ?_
  refine And.intro (vp_in_iff.mpr (by decide +kernel)) ?_
  refine nm_r (e' := 0) (by decide +kernel) ?_
  refine br_f (by decide +kernel) ?_
  refine ux_slotFor_2_8 h0 (by decide +kernel) ?_
  refine And.intro (by decide +kernel) ?_
  refine And.intro (vp_in_iff.mpr (by decide +kernel)) ?_
  exact ek_v (P := fun r => post r (1, 1, 1, (-1), (-1), 0, 0, (ux_l [0, 0, 0, 0]), (ux_l [0, (-1), (-1)]), (ux_l [1]), (ux_l [1037, 39457, 48, 0]), (ux_l [2, 1]), (ux_l [1, 3]), (ux_l [0, 0, 0, 0, 0, 0]), (ux_l [0, 1]), (ux_l [0, 0]), (ux_l [3]), (ux_l [1]), (ux_l [0, 0]), (fun _ => 0), (fun _ => 0), (fun _ => 0), (fun _ => 0), (fun _ => 0), (fun _ => 0), (fun _ => 0), (fun _ => 0), (fun _ => 0), (fun _ => 0), (ux_l [(-1), (-1), (-1), (-1), (-1)]), (fun _ => 0), (ux_l [3]), (ux_l [1037]), (ux_l [x, 0, 0, 0]), (ux_l [0]), (ux_l [0, 0, 0, 0]), (fun _ => 0), (fun _ => 0))) rfl hp
theorem ux_slotFor_2_9 {x : Int32} (h0 : x < 0) {post : Int32 → St2 → Prop} {p0 : Int32} (h_p0 : p0 = 0) (hp : post 0 (1, 1, 1, (-1), (-1), 0, 0, (ux_l [0, 0, 0, 0]), (ux_l [0, (-1), (-1)]), (ux_l [1]), (ux_l [1037, 39457, 48, 0]), (ux_l [2, 1]), (ux_l [1, 3]), (ux_l [0, 0, 0, 0, 0, 0]), (ux_l [0, 1]), (ux_l [0, 0]), (ux_l [3]), (ux_l [1]), (ux_l [0, 0]), (fun _ => 0), (fun _ => 0), (fun _ => 0), (fun _ => 0), (fun _ => 0), (fun _ => 0), (fun _ => 0), (fun _ => 0), (fun _ => 0), (fun _ => 0), (ux_l [(-1), (-1), (-1), (-1), (-1)]), (fun _ => 0), (ux_l [3]), (ux_l [1037, 39457]), (ux_l [x, 0, 0, 0]), (ux_l [0]), (ux_l [0, 0, 0, 0]), (fun _ => 0), (fun _ => 0))) : wpX_slotFor_2 post (1, 1, 1, (-1), (-1), 0, 0, (ux_l [0, 0, 0, 0]), (ux_l [0, (-1), (-1)]), (ux_l [1]), (ux_l [1037, 39457, 48, 0]), (ux_l [2, 1]), (ux_l [1, 3]), (ux_l [0, 0, 0, 0, 0, 0]), (ux_l [0, 1]), (ux_l [0, 0]), (ux_l [3]), (ux_l [1]), (ux_l [0, 0]), (fun _ => 0), (fun _ => 0), (fun _ => 0), (fun _ => 0), (fun _ => 0), (fun _ => 0), (fun _ => 0), (fun _ => 0), (fun _ => 0), (fun _ => 0), (ux_l [(-1), (-1), (-1), (-1), (-1)]), (fun _ => 0), (ux_l [3]), (ux_l [1037, 39457]), (ux_l [x, 0, 0, 0]), (ux_l [0]), (ux_l [0, 0, 0, 0]), (fun _ => 0), (fun _ => 0)) p0 := by
  subst h_p0
  refine Exists.intro 24 ?_
  refine br_f (by decide +kernel) ?_
  refine And.intro (vp_in_iff.mpr (by decide +kernel)) ?_
  refine br_t (by decide +kernel) ?_
  exact ek_v (P := fun r => post r (1, 1, 1, (-1), (-1), 0, 0, (ux_l [0, 0, 0, 0]), (ux_l [0, (-1), (-1)]), (ux_l [1]), (ux_l [1037, 39457, 48, 0]), (ux_l [2, 1]), (ux_l [1, 3]), (ux_l [0, 0, 0, 0, 0, 0]), (ux_l [0, 1]), (ux_l [0, 0]), (ux_l [3]), (ux_l [1]), (ux_l [0, 0]), (fun _ => 0), (fun _ => 0), (fun _ => 0), (fun _ => 0), (fun _ => 0), (fun _ => 0), (fun _ => 0), (fun _ => 0), (fun _ => 0), (fun _ => 0), (ux_l [(-1), (-1), (-1), (-1), (-1)]), (fun _ => 0), (ux_l [3]), (ux_l [1037, 39457]), (ux_l [x, 0, 0, 0]), (ux_l [0]), (ux_l [0, 0, 0, 0]), (fun _ => 0), (fun _ => 0))) rfl hp
theorem ux_wordAt_9 {x : Int32} (h0 : x < 0) {post : Int32 → St2 → Prop} {p0 : Int32} {p1 : Int32} (h_p0 : p0 = 1) (h_p1 : p1 = 2) (hp : post 48 (1, 1, 1, (-1), (-1), 0, 0, (ux_l [0, 0, 0, 0]), (ux_l [0, (-1), (-1)]), (ux_l [1]), (ux_l [1037, 39457, 48, 0]), (ux_l [2, 1]), (ux_l [1, 3]), (ux_l [0, 0, 0, 0, 0, 0]), (ux_l [0, 1]), (ux_l [0, 0]), (ux_l [3]), (ux_l [1]), (ux_l [0, 0]), (fun _ => 0), (fun _ => 0), (fun _ => 0), (fun _ => 0), (fun _ => 0), (fun _ => 0), (fun _ => 0), (fun _ => 0), (fun _ => 0), (fun _ => 0), (ux_l [(-1), (-1), (-1), (-1), (-1)]), (fun _ => 0), (ux_l [3]), (ux_l [1037, 39457]), (ux_l [x, 0, 0, 0]), (ux_l [0]), (ux_l [0, 0, 0, 0]), (fun _ => 0), (fun _ => 0))) : wpX_wordAt post (1, 1, 1, (-1), (-1), 0, 0, (ux_l [0, 0, 0, 0]), (ux_l [0, (-1), (-1)]), (ux_l [1]), (ux_l [1037, 39457, 48, 0]), (ux_l [2, 1]), (ux_l [1, 3]), (ux_l [0, 0, 0, 0, 0, 0]), (ux_l [0, 1]), (ux_l [0, 0]), (ux_l [3]), (ux_l [1]), (ux_l [0, 0]), (fun _ => 0), (fun _ => 0), (fun _ => 0), (fun _ => 0), (fun _ => 0), (fun _ => 0), (fun _ => 0), (fun _ => 0), (fun _ => 0), (fun _ => 0), (ux_l [(-1), (-1), (-1), (-1), (-1)]), (fun _ => 0), (ux_l [3]), (ux_l [1037, 39457]), (ux_l [x, 0, 0, 0]), (ux_l [0]), (ux_l [0, 0, 0, 0]), (fun _ => 0), (fun _ => 0)) p0 p1 := by
  subst h_p0
  subst h_p1
  refine And.intro (by decide +kernel) ?_
  refine And.intro (vp_in_iff.mpr (by decide +kernel)) ?_
  refine nm_r (e' := 0) (by decide +kernel) ?_
  refine br_f (by decide +kernel) ?_
  refine ux_slotFor_2_9 h0 (by decide +kernel) ?_
  refine And.intro (by decide +kernel) ?_
  refine And.intro (vp_in_iff.mpr (by decide +kernel)) ?_
  exact ek_v (P := fun r => post r (1, 1, 1, (-1), (-1), 0, 0, (ux_l [0, 0, 0, 0]), (ux_l [0, (-1), (-1)]), (ux_l [1]), (ux_l [1037, 39457, 48, 0]), (ux_l [2, 1]), (ux_l [1, 3]), (ux_l [0, 0, 0, 0, 0, 0]), (ux_l [0, 1]), (ux_l [0, 0]), (ux_l [3]), (ux_l [1]), (ux_l [0, 0]), (fun _ => 0), (fun _ => 0), (fun _ => 0), (fun _ => 0), (fun _ => 0), (fun _ => 0), (fun _ => 0), (fun _ => 0), (fun _ => 0), (fun _ => 0), (ux_l [(-1), (-1), (-1), (-1), (-1)]), (fun _ => 0), (ux_l [3]), (ux_l [1037, 39457]), (ux_l [x, 0, 0, 0]), (ux_l [0]), (ux_l [0, 0, 0, 0]), (fun _ => 0), (fun _ => 0))) rfl hp
theorem ux_loadProgram_3 {x : Int32} (h0 : x < 0) {post : St2 → Prop} {p0 : Int32} {p1 : Int32} (h_p0 : p0 = 0) (h_p1 : p1 = 1) (hp : post (1, 1, 1, (-1), (-1), 0, 0, (ux_l [0, 0, 0, 0]), (ux_l [0, (-1), (-1)]), (ux_l [1]), (ux_l [1037, 39457, 48, 0]), (ux_l [2, 1]), (ux_l [1, 3]), (ux_l [0, 0, 0, 0, 0, 0]), (ux_l [0, 1]), (ux_l [0, 0]), (ux_l [3]), (ux_l [1]), (ux_l [0, 0]), (fun _ => 0), (fun _ => 0), (fun _ => 0), (fun _ => 0), (fun _ => 0), (fun _ => 0), (fun _ => 0), (fun _ => 0), (fun _ => 0), (fun _ => 0), (ux_l [(-1), (-1), (-1), (-1), (-1)]), (ux_l [0]), (ux_l [3]), (ux_l [1037, 39457, 48]), (ux_l [x, 0, 0, 0]), (ux_l [0]), (ux_l [0, 0, 0, 0]), (fun _ => 0), (fun _ => 0))) : wpX_loadProgram post (1, 1, 1, (-1), (-1), 0, 0, (ux_l [0, 0, 0, 0]), (ux_l [0, (-1), (-1)]), (ux_l [1]), (ux_l [1037, 39457, 48, 0]), (ux_l [2, 1]), (ux_l [1, 3]), (ux_l [0, 0, 0, 0, 0, 0]), (ux_l [0, 1]), (ux_l [0, 0]), (ux_l [3]), (ux_l [1]), (ux_l [0, 0]), (fun _ => 0), (fun _ => 0), (fun _ => 0), (fun _ => 0), (fun _ => 0), (fun _ => 0), (fun _ => 0), (fun _ => 0), (fun _ => 0), (fun _ => 0), (ux_l [(-1), (-1), (-1), (-1), (-1)]), (fun _ => 0), (fun _ => 0), (fun _ => 0), (ux_l [x, 0, 0, 0]), (ux_l [0]), (ux_l [0, 0, 0, 0]), (fun _ => 0), (fun _ => 0)) p0 p1 := by
  subst h_p0
  subst h_p1
  refine And.intro (vp_in_iff.mpr (by decide +kernel)) ?_
  refine And.intro (vp_in_iff.mpr (by decide +kernel)) ?_
  refine nm_r (ux_up0 (l' := [3]) (k' := 0) (v' := 3) (by decide +kernel) (by decide +kernel) rfl) ?_
  refine Exists.intro 24 ?_
  refine And.intro (vp_in_iff.mpr (by decide +kernel)) ?_
  refine br_f (by decide +kernel) ?_
  refine ux_wordAt_7 h0 (by decide +kernel) (by decide +kernel) ?_
  refine And.intro (vp_in_iff.mpr (by decide +kernel)) ?_
  refine nm_r (ux_up0 (l' := [1037]) (k' := 0) (v' := 1037) (by decide +kernel) (by decide +kernel) rfl) ?_
  refine nm_r (e' := 1) (by decide +kernel) ?_
  refine And.intro (vp_in_iff.mpr (by decide +kernel)) ?_
  refine br_f (by decide +kernel) ?_
  refine ux_wordAt_8 h0 (by decide +kernel) (by decide +kernel) ?_
  refine And.intro (vp_in_iff.mpr (by decide +kernel)) ?_
  refine nm_r (ux_up (l' := [1037, 39457]) (k' := 1) (v' := 39457) (by decide +kernel) (by decide +kernel) rfl) ?_
  refine nm_r (e' := 2) (by decide +kernel) ?_
  refine And.intro (vp_in_iff.mpr (by decide +kernel)) ?_
  refine br_f (by decide +kernel) ?_
  refine ux_wordAt_9 h0 (by decide +kernel) (by decide +kernel) ?_
  refine And.intro (vp_in_iff.mpr (by decide +kernel)) ?_
  refine nm_r (ux_up (l' := [1037, 39457, 48]) (k' := 2) (v' := 48) (by decide +kernel) (by decide +kernel) rfl) ?_
  refine nm_r (e' := 3) (by decide +kernel) ?_
  refine And.intro (vp_in_iff.mpr (by decide +kernel)) ?_
  refine br_t (by decide +kernel) ?_
  refine And.intro (vp_in_iff.mpr (by decide +kernel)) ?_
  refine nm_r (ux_up0 (l' := [0]) (k' := 0) (v' := 0) (by decide +kernel) (by decide +kernel) rfl) ?_
  exact hp
theorem ux_enqueue_5 {x : Int32} (h0 : x < 0) {post : St2 → Prop} {p0 : Int32} (h_p0 : p0 = 0) (hp : post (1, 1, 1, 0, 0, 0, 0, (ux_l [0, 0, 0, 0]), (ux_l [0, (-1), (-1)]), (ux_l [1]), (ux_l [1037, 39457, 48, 0]), (ux_l [2, 1]), (ux_l [1, 3]), (ux_l [0, 0, 0, 0, 0, 0]), (ux_l [0, 1]), (ux_l [0, 0]), (ux_l [3]), (ux_l [1]), (ux_l [0, 0]), (fun _ => 0), (fun _ => 0), (fun _ => 0), (fun _ => 0), (fun _ => 0), (fun _ => 0), (fun _ => 0), (fun _ => 0), (fun _ => 0), (ux_l [1]), (ux_l [(-1), (-1), (-1), (-1), (-1)]), (ux_l [0]), (ux_l [3]), (ux_l [1037, 39457, 48]), (ux_l [x, 0, 0, 0]), (ux_l [0]), (ux_l [0, 0, 0, 0]), (ux_l [(-1)]), (fun _ => 0))) : wpX_enqueue post (1, 1, 1, (-1), (-1), 0, 0, (ux_l [0, 0, 0, 0]), (ux_l [0, (-1), (-1)]), (ux_l [1]), (ux_l [1037, 39457, 48, 0]), (ux_l [2, 1]), (ux_l [1, 3]), (ux_l [0, 0, 0, 0, 0, 0]), (ux_l [0, 1]), (ux_l [0, 0]), (ux_l [3]), (ux_l [1]), (ux_l [0, 0]), (fun _ => 0), (fun _ => 0), (fun _ => 0), (fun _ => 0), (fun _ => 0), (fun _ => 0), (fun _ => 0), (fun _ => 0), (fun _ => 0), (ux_l [1]), (ux_l [(-1), (-1), (-1), (-1), (-1)]), (ux_l [0]), (ux_l [3]), (ux_l [1037, 39457, 48]), (ux_l [x, 0, 0, 0]), (ux_l [0]), (ux_l [0, 0, 0, 0]), (fun _ => 0), (fun _ => 0)) p0 := by
  subst h_p0
  refine And.intro (vp_in_iff.mpr (by decide +kernel)) ?_
  refine nm_r (ux_up0 (l' := [(-1)]) (k' := 0) (v' := (-1)) (by decide +kernel) (by decide +kernel) rfl) ?_
  refine br_t (by decide +kernel) ?_
  exact hp
theorem ux_spawn_3 {x : Int32} (h0 : x < 0) {post : Int32 → St2 → Prop} {p0 : Int32} (h_p0 : p0 = 3) (hp : post 0 (1, 1, 1, 0, 0, 0, 0, (ux_l [0, 0, 0, 0]), (ux_l [0, (-1), (-1)]), (ux_l [1]), (ux_l [1037, 39457, 48, 0]), (ux_l [2, 1]), (ux_l [1, 3]), (ux_l [0, 0, 0, 0, 0, 0]), (ux_l [0, 1]), (ux_l [0, 0]), (ux_l [3]), (ux_l [1]), (ux_l [0, 0]), (fun _ => 0), (fun _ => 0), (fun _ => 0), (fun _ => 0), (fun _ => 0), (fun _ => 0), (fun _ => 0), (fun _ => 0), (fun _ => 0), (ux_l [1]), (ux_l [(-1), (-1), (-1), (-1), (-1)]), (ux_l [0]), (ux_l [3]), (ux_l [1037, 39457, 48]), (ux_l [x, 0, 0, 0]), (ux_l [0]), (ux_l [0, 0, 0, 0]), (ux_l [(-1)]), (fun _ => 0))) : wpX_spawn post (1, 1, 1, (-1), (-1), 0, 0, (ux_l [0, 0, 0, 0]), (ux_l [0, (-1), (-1)]), (ux_l [1]), (ux_l [1037, 39457, 48, 0]), (ux_l [2, 1]), (ux_l [1, 3]), (ux_l [0, 0, 0, 0, 0, 0]), (ux_l [0, 1]), (ux_l [0, 0]), (ux_l [3]), (ux_l [1]), (ux_l [0, 0]), (fun _ => 0), (fun _ => 0), (fun _ => 0), (fun _ => 0), (fun _ => 0), (fun _ => 0), (fun _ => 0), (fun _ => 0), (fun _ => 0), (fun _ => 0), (ux_l [(-1), (-1), (-1), (-1), (-1)]), (fun _ => 0), (fun _ => 0), (fun _ => 0), (fun _ => 0), (fun _ => 0), (fun _ => 0), (fun _ => 0), (fun _ => 0)) p0 x := by
  subst h_p0
  refine Exists.intro 24 ?_
  refine br_f (by decide +kernel) ?_
  refine And.intro (vp_in_iff.mpr (by decide +kernel)) ?_
  refine br_t (by decide +kernel) ?_
  refine br_f (by decide +kernel) ?_
  refine br_f (by decide +kernel) ?_
  refine br_f (by decide +kernel) ?_
  refine nm_r (e' := 0) (by decide +kernel) ?_
  refine Exists.intro 24 ?_
  refine And.intro (vp_in_iff.mpr (by decide +kernel)) ?_
  refine br_f (by decide +kernel) ?_
  refine And.intro (vp_in_iff.mpr (by decide +kernel)) ?_
  refine br_t (by decide +kernel) ?_
  refine br_t (by decide +kernel) ?_
  refine And.intro (vp_in_iff.mpr (by decide +kernel)) ?_
  refine br_f (by decide +kernel) ?_
  refine br_f (by decide +kernel) ?_
  refine And.intro (vp_in_iff.mpr (by decide +kernel)) ?_
  refine br_t (by decide +kernel) ?_
  refine And.intro (vp_in_iff.mpr (by decide +kernel)) ?_
  refine nm_r (ux_up (l' := [(-1), (-1), (-1), (-1), (-1)]) (k' := 0) (v' := (-1)) (by decide +kernel) (by decide +kernel) rfl) ?_
  refine And.intro (vp_in_iff.mpr (by decide +kernel)) ?_
  refine nm_r (ux_up0 (l' := [0]) (k' := 0) (v' := 0) (by decide +kernel) (by decide +kernel) rfl) ?_
  refine nm_r (e' := 0) (by decide +kernel) ?_
  refine Exists.intro 24 ?_
  refine br_f (by decide +kernel) ?_
  refine And.intro (vp_in_iff.mpr (by decide +kernel)) ?_
  refine nm_r (ux_up0 (l' := [0]) (k' := 0) (v' := 0) (by decide +kernel) (by decide +kernel) rfl) ?_
  refine And.intro (vp_in_iff.mpr (by decide +kernel)) ?_
  refine nm_r (ux_up0 (l' := [0]) (k' := 0) (v' := 0) (by decide +kernel) (by decide +kernel) rfl) ?_
  refine nm_r (e' := 1) (by decide +kernel) ?_
  refine br_f (by decide +kernel) ?_
  refine And.intro (vp_in_iff.mpr (by decide +kernel)) ?_
  refine nm_r (ux_up (l' := [0, 0]) (k' := 1) (v' := 0) (by decide +kernel) (by decide +kernel) rfl) ?_
  refine And.intro (vp_in_iff.mpr (by decide +kernel)) ?_
  refine nm_r (ux_up (l' := [0, 0]) (k' := 1) (v' := 0) (by decide +kernel) (by decide +kernel) rfl) ?_
  refine nm_r (e' := 2) (by decide +kernel) ?_
  refine br_f (by decide +kernel) ?_
  refine And.intro (vp_in_iff.mpr (by decide +kernel)) ?_
  refine nm_r (ux_up (l' := [0, 0, 0]) (k' := 2) (v' := 0) (by decide +kernel) (by decide +kernel) rfl) ?_
  refine And.intro (vp_in_iff.mpr (by decide +kernel)) ?_
  refine nm_r (ux_up (l' := [0, 0, 0]) (k' := 2) (v' := 0) (by decide +kernel) (by decide +kernel) rfl) ?_
  refine nm_r (e' := 3) (by decide +kernel) ?_
  refine br_f (by decide +kernel) ?_
  refine And.intro (vp_in_iff.mpr (by decide +kernel)) ?_
  refine nm_r (ux_up (l' := [0, 0, 0, 0]) (k' := 3) (v' := 0) (by decide +kernel) (by decide +kernel) rfl) ?_
  refine And.intro (vp_in_iff.mpr (by decide +kernel)) ?_
  refine nm_r (ux_up (l' := [0, 0, 0, 0]) (k' := 3) (v' := 0) (by decide +kernel) (by decide +kernel) rfl) ?_
  refine nm_r (e' := 4) (by decide +kernel) ?_
  refine br_t (by decide +kernel) ?_
  refine And.intro (vp_in_iff.mpr (by decide +kernel)) ?_
  refine nm_r (ux_up (l' := [x, 0, 0, 0]) (k' := 0) (v' := x) (by decide +kernel) rfl rfl) ?_
  refine ux_loadProgram_3 h0 (by decide +kernel) (by decide +kernel) ?_
  refine And.intro (vp_in_iff.mpr (by decide +kernel)) ?_
  refine nm_r (ux_up0 (l' := [1]) (k' := 0) (v' := 1) (by decide +kernel) (by decide +kernel) rfl) ?_
  refine ux_enqueue_5 h0 (by decide +kernel) ?_
  exact ek_v (P := fun r => post r (1, 1, 1, 0, 0, 0, 0, (ux_l [0, 0, 0, 0]), (ux_l [0, (-1), (-1)]), (ux_l [1]), (ux_l [1037, 39457, 48, 0]), (ux_l [2, 1]), (ux_l [1, 3]), (ux_l [0, 0, 0, 0, 0, 0]), (ux_l [0, 1]), (ux_l [0, 0]), (ux_l [3]), (ux_l [1]), (ux_l [0, 0]), (fun _ => 0), (fun _ => 0), (fun _ => 0), (fun _ => 0), (fun _ => 0), (fun _ => 0), (fun _ => 0), (fun _ => 0), (fun _ => 0), (ux_l [1]), (ux_l [(-1), (-1), (-1), (-1), (-1)]), (ux_l [0]), (ux_l [3]), (ux_l [1037, 39457, 48]), (ux_l [x, 0, 0, 0]), (ux_l [0]), (ux_l [0, 0, 0, 0]), (ux_l [(-1)]), (fun _ => 0))) rfl hp
theorem ux_dequeue_3 {x : Int32} (h0 : x < 0) {post : Int32 → St2 → Prop} (hp : post 0 (1, 1, 1, (-1), (-1), 0, 0, (ux_l [0, 0, 0, 0]), (ux_l [0, (-1), (-1)]), (ux_l [1]), (ux_l [1037, 39457, 48, 0]), (ux_l [2, 1]), (ux_l [1, 3]), (ux_l [0, 0, 0, 0, 0, 0]), (ux_l [0, 1]), (ux_l [0, 0]), (ux_l [3]), (ux_l [1]), (ux_l [0, 0]), (fun _ => 0), (fun _ => 0), (fun _ => 0), (fun _ => 0), (fun _ => 0), (fun _ => 0), (fun _ => 0), (fun _ => 0), (fun _ => 0), (ux_l [1]), (ux_l [(-1), (-1), (-1), (-1), (-1)]), (ux_l [0]), (ux_l [3]), (ux_l [1037, 39457, 48]), (ux_l [x, 0, 0, 0]), (ux_l [0]), (ux_l [0, 0, 0, 0]), (ux_l [(-1)]), (fun _ => 0))) : wpX_dequeue post (1, 1, 1, 0, 0, 0, 0, (ux_l [0, 0, 0, 0]), (ux_l [0, (-1), (-1)]), (ux_l [1]), (ux_l [1037, 39457, 48, 0]), (ux_l [2, 1]), (ux_l [1, 3]), (ux_l [0, 0, 0, 0, 0, 0]), (ux_l [0, 1]), (ux_l [0, 0]), (ux_l [3]), (ux_l [1]), (ux_l [0, 0]), (fun _ => 0), (fun _ => 0), (fun _ => 0), (fun _ => 0), (fun _ => 0), (fun _ => 0), (fun _ => 0), (fun _ => 0), (fun _ => 0), (ux_l [1]), (ux_l [(-1), (-1), (-1), (-1), (-1)]), (ux_l [0]), (ux_l [3]), (ux_l [1037, 39457, 48]), (ux_l [x, 0, 0, 0]), (ux_l [0]), (ux_l [0, 0, 0, 0]), (ux_l [(-1)]), (fun _ => 0)) := by
  refine br_t (by decide +kernel) ?_
  refine And.intro (vp_in_iff.mpr (by decide +kernel)) ?_
  refine nm_r (e' := (-1)) (by decide +kernel) ?_
  refine br_f (by decide +kernel) ?_
  exact ek_v (P := fun r => post r (1, 1, 1, (-1), (-1), 0, 0, (ux_l [0, 0, 0, 0]), (ux_l [0, (-1), (-1)]), (ux_l [1]), (ux_l [1037, 39457, 48, 0]), (ux_l [2, 1]), (ux_l [1, 3]), (ux_l [0, 0, 0, 0, 0, 0]), (ux_l [0, 1]), (ux_l [0, 0]), (ux_l [3]), (ux_l [1]), (ux_l [0, 0]), (fun _ => 0), (fun _ => 0), (fun _ => 0), (fun _ => 0), (fun _ => 0), (fun _ => 0), (fun _ => 0), (fun _ => 0), (fun _ => 0), (ux_l [1]), (ux_l [(-1), (-1), (-1), (-1), (-1)]), (ux_l [0]), (ux_l [3]), (ux_l [1037, 39457, 48]), (ux_l [x, 0, 0, 0]), (ux_l [0]), (ux_l [0, 0, 0, 0]), (ux_l [(-1)]), (fun _ => 0))) rfl hp
theorem ux_enterNew_3 {x : Int32} (h0 : x < 0) {post : Int32 → St2 → Prop} {p0 : Int32} {p2 : Int32} (h_p0 : p0 = 0) (h_p2 : p2 = 1) (hp : post (-1) (1, 1, 1, (-1), (-1), 1, 0, (ux_l [0, 0, 0, 0]), (ux_l [0, (-1), (-1)]), (ux_l [1]), (ux_l [1037, 39457, 48, 0]), (ux_l [2, 1]), (ux_l [1, 3]), (ux_l [0, 0, 0, 0, 0, 0]), (ux_l [0, 1]), (ux_l [0, 0]), (ux_l [3]), (ux_l [1]), (ux_l [0, 0]), (fun _ => 0), (fun _ => 0), (fun _ => 0), (fun _ => 0), (fun _ => 0), (fun _ => 0), (fun _ => 0), (fun _ => 0), (fun _ => 0), (ux_l [1]), (ux_l [(-1), (-1), (-1), (-1), (-1)]), (ux_l [1]), (ux_l [3]), (ux_l [1037, 39457, 48]), (ux_l [x, 0, 0, 0]), (ux_l [0]), (ux_l [0, 0, 0, 0]), (ux_l [(-1)]), (fun _ => 0))) : wpX_enterNew post (1, 1, 1, (-1), (-1), 1, 0, (ux_l [0, 0, 0, 0]), (ux_l [0, (-1), (-1)]), (ux_l [1]), (ux_l [1037, 39457, 48, 0]), (ux_l [2, 1]), (ux_l [1, 3]), (ux_l [0, 0, 0, 0, 0, 0]), (ux_l [0, 1]), (ux_l [0, 0]), (ux_l [3]), (ux_l [1]), (ux_l [0, 0]), (fun _ => 0), (fun _ => 0), (fun _ => 0), (fun _ => 0), (fun _ => 0), (fun _ => 0), (fun _ => 0), (fun _ => 0), (fun _ => 0), (ux_l [1]), (ux_l [(-1), (-1), (-1), (-1), (-1)]), (ux_l [1]), (ux_l [3]), (ux_l [1037, 39457, 48]), (ux_l [x, 0, 0, 0]), (ux_l [0]), (ux_l [0, 0, 0, 0]), (ux_l [(-1)]), (fun _ => 0)) p0 x p2 := by
  subst h_p0
  subst h_p2
  refine Exists.intro 24 ?_
  refine br_f (by decide +kernel) ?_
  refine And.intro (vp_in_iff.mpr (by decide +kernel)) ?_
  refine br_f (by decide +kernel) ?_
  refine nm_r (e' := 2) (by decide +kernel) ?_
  refine br_f (by decide +kernel) ?_
  refine And.intro (vp_in_iff.mpr (by decide +kernel)) ?_
  refine br_t (by decide +kernel) ?_
  refine br_f (by decide +kernel) ?_
  refine br_t h0 ?_
  refine br_t (by decide +kernel) ?_
  exact hp
theorem ux_open_3 {x : Int32} (h0 : x < 0) {post : Int32 → St2 → Prop} {p0 : Int32} {p1 : Int32} {p3 : Int32} (h_p0 : p0 = 0) (h_p1 : p1 = 0) (h_p3 : p3 = 2) (hp : post 0 (1, 1, 1, (-1), (-1), 1, 0, (ux_l [0, 0, 0, 0]), (ux_l [0, (-1), (-1)]), (ux_l [1]), (ux_l [1037, 39457, 48, 0]), (ux_l [2, 1]), (ux_l [1, 3]), (ux_l [0, 0, 0, 0, 0, 0]), (ux_l [0, 1]), (ux_l [0, 0]), (ux_l [3]), (ux_l [1]), (ux_l [0, 0]), (fun _ => 0), (fun _ => 0), (fun _ => 0), (fun _ => 0), (fun _ => 0), (fun _ => 0), (fun _ => 0), (fun _ => 0), (fun _ => 0), (ux_l [1]), (ux_l [(-1), (-1), (-1), (-1), (-1)]), (ux_l [1]), (ux_l [3]), (ux_l [1037, 39457, 48]), (ux_l [x, 0, 0, 0]), (ux_l [0]), (ux_l [0, 0, 0, 0]), (ux_l [(-1)]), (fun _ => 0))) : wpX_open post (1, 1, 1, (-1), (-1), 1, 0, (ux_l [0, 0, 0, 0]), (ux_l [0, (-1), (-1)]), (ux_l [1]), (ux_l [1037, 39457, 48, 0]), (ux_l [2, 1]), (ux_l [1, 3]), (ux_l [0, 0, 0, 0, 0, 0]), (ux_l [0, 1]), (ux_l [0, 0]), (ux_l [3]), (ux_l [1]), (ux_l [0, 0]), (fun _ => 0), (fun _ => 0), (fun _ => 0), (fun _ => 0), (fun _ => 0), (fun _ => 0), (fun _ => 0), (fun _ => 0), (fun _ => 0), (ux_l [1]), (ux_l [(-1), (-1), (-1), (-1), (-1)]), (ux_l [1]), (ux_l [3]), (ux_l [1037, 39457, 48]), (ux_l [x, 0, 0, 0]), (ux_l [0]), (ux_l [0, 0, 0, 0]), (ux_l [(-1)]), (fun _ => 0)) p0 p1 x p3 := by
  subst h_p0
  subst h_p1
  subst h_p3
  refine Exists.intro 24 ?_
  refine br_f (by decide +kernel) ?_
  refine And.intro (vp_in_iff.mpr (by decide +kernel)) ?_
  refine br_t (by decide +kernel) ?_
  refine Exists.intro 24 ?_
  refine br_f (by decide +kernel) ?_
  refine And.intro (vp_in_iff.mpr (by decide +kernel)) ?_
  refine br_t (by decide +kernel) ?_
  refine br_f (by decide +kernel) ?_
  refine br_t (by decide +kernel) ?_
  refine br_t h0 ?_
  refine br_t (by decide +kernel) ?_
  refine br_t (by decide +kernel) ?_
  refine br_f (by decide +kernel) ?_
  refine br_t (by decide +kernel) ?_
  refine And.intro (vp_in_iff.mpr (by decide +kernel)) ?_
  refine nm_r (e' := 0) (by decide +kernel) ?_
  refine Exists.intro 24 ?_
  refine And.intro (vp_in_iff.mpr (by decide +kernel)) ?_
  refine br_f (by decide +kernel) ?_
  refine And.intro (vp_in_iff.mpr (by decide +kernel)) ?_
  refine br_f (fun z => ux_n3 h0 z.symm) ?_
  refine nm_r (e' := 1) (by decide +kernel) ?_
  refine And.intro (vp_in_iff.mpr (by decide +kernel)) ?_
  refine br_t (by decide +kernel) ?_
  refine br_f (by decide +kernel) ?_
  refine br_f (by decide +kernel) ?_
  refine And.intro (vp_in_iff.mpr (by decide +kernel)) ?_
  refine ux_enterNew_3 h0 (by decide +kernel) (by decide +kernel) ?_
  refine br_f (by decide +kernel) ?_
  exact hp
theorem ux_callKernel_3 {x : Int32} (h0 : x < 0) {post : St2 → Prop} {p0 : Int32} {p1 : Int32} {p2 : Int32} {p3 : Int32} {p4 : Int32} (h_p0 : p0 = 0) (h_p1 : p1 = 13) (h_p2 : p2 = 0) (h_p3 : p3 = 0) (h_p4 : p4 = 2) (hp : post (1, 1, 1, (-1), (-1), 1, 0, (ux_l [0, 0, 0, 0]), (ux_l [0, (-1), (-1)]), (ux_l [1]), (ux_l [1037, 39457, 48, 0]), (ux_l [2, 1]), (ux_l [1, 3]), (ux_l [0, 0, 0, 0, 0, 0]), (ux_l [0, 1]), (ux_l [0, 0]), (ux_l [3]), (ux_l [1]), (ux_l [0, 0]), (fun _ => 0), (fun _ => 0), (fun _ => 0), (fun _ => 0), (fun _ => 0), (fun _ => 0), (fun _ => 0), (fun _ => 0), (fun _ => 0), (ux_l [1]), (ux_l [(-1), (-1), (-1), (-1), (-1)]), (ux_l [1]), (ux_l [3]), (ux_l [1037, 39457, 48]), (ux_l [x, 0, 0, (-1)]), (ux_l [0]), (ux_l [0, 0, 0, 0]), (ux_l [(-1)]), (fun _ => 0))) : wpX_callKernel post (1, 1, 1, (-1), (-1), 1, 0, (ux_l [0, 0, 0, 0]), (ux_l [0, (-1), (-1)]), (ux_l [1]), (ux_l [1037, 39457, 48, 0]), (ux_l [2, 1]), (ux_l [1, 3]), (ux_l [0, 0, 0, 0, 0, 0]), (ux_l [0, 1]), (ux_l [0, 0]), (ux_l [3]), (ux_l [1]), (ux_l [0, 0]), (fun _ => 0), (fun _ => 0), (fun _ => 0), (fun _ => 0), (fun _ => 0), (fun _ => 0), (fun _ => 0), (fun _ => 0), (fun _ => 0), (ux_l [1]), (ux_l [(-1), (-1), (-1), (-1), (-1)]), (ux_l [1]), (ux_l [3]), (ux_l [1037, 39457, 48]), (ux_l [x, 0, 0, 0]), (ux_l [0]), (ux_l [0, 0, 0, 0]), (ux_l [(-1)]), (fun _ => 0)) p0 p1 p2 p3 p4 := by
  subst h_p0
  subst h_p1
  subst h_p2
  subst h_p3
  subst h_p4
  refine And.intro (vp_in_iff.mpr (by decide +kernel)) ?_
  refine nm_r (e' := x) rfl ?_
  refine And.intro (vp_in_iff.mpr (by decide +kernel)) ?_
  refine nm_r (e' := x) rfl ?_
  refine br_f (by decide +kernel) ?_
  refine br_t (by decide +kernel) ?_
  refine ux_open_3 h0 (by decide +kernel) (by decide +kernel) (by decide +kernel) ?_
  refine br_f (by decide +kernel) ?_
  refine br_t (by decide +kernel) ?_
  refine br_t (by decide +kernel) ?_
  refine And.intro (vp_in_iff.mpr (by decide +kernel)) ?_
  refine nm_r (ux_up (l' := [x, 0, 0, (-1)]) (k' := 3) (v' := (-1)) (by decide +kernel) (by decide +kernel) rfl) ?_
  exact hp
theorem ux_execute_7 {x : Int32} (h0 : x < 0) {post : St2 → Prop} {p0 : Int32} {p1 : Int32} (h_p0 : p0 = 0) (h_p1 : p1 = 1037) (hp : post (1, 1, 1, (-1), (-1), 1, 0, (ux_l [0, 0, 0, 0]), (ux_l [0, (-1), (-1)]), (ux_l [1]), (ux_l [1037, 39457, 48, 0]), (ux_l [2, 1]), (ux_l [1, 3]), (ux_l [0, 0, 0, 0, 0, 0]), (ux_l [0, 1]), (ux_l [0, 0]), (ux_l [3]), (ux_l [1]), (ux_l [0, 0]), (fun _ => 0), (fun _ => 0), (fun _ => 0), (fun _ => 0), (fun _ => 0), (fun _ => 0), (fun _ => 0), (fun _ => 0), (fun _ => 0), (ux_l [1]), (ux_l [(-1), (-1), (-1), (-1), (-1)]), (ux_l [1]), (ux_l [3]), (ux_l [1037, 39457, 48]), (ux_l [x, 0, 0, (-1)]), (ux_l [0]), (ux_l [0, 0, 0, 0]), (ux_l [(-1)]), (fun _ => 0))) : wpX_execute post (1, 1, 1, (-1), (-1), 1, 0, (ux_l [0, 0, 0, 0]), (ux_l [0, (-1), (-1)]), (ux_l [1]), (ux_l [1037, 39457, 48, 0]), (ux_l [2, 1]), (ux_l [1, 3]), (ux_l [0, 0, 0, 0, 0, 0]), (ux_l [0, 1]), (ux_l [0, 0]), (ux_l [3]), (ux_l [1]), (ux_l [0, 0]), (fun _ => 0), (fun _ => 0), (fun _ => 0), (fun _ => 0), (fun _ => 0), (fun _ => 0), (fun _ => 0), (fun _ => 0), (fun _ => 0), (ux_l [1]), (ux_l [(-1), (-1), (-1), (-1), (-1)]), (ux_l [0]), (ux_l [3]), (ux_l [1037, 39457, 48]), (ux_l [x, 0, 0, 0]), (ux_l [0]), (ux_l [0, 0, 0, 0]), (ux_l [(-1)]), (fun _ => 0)) p0 p1 := by
  subst h_p0
  subst h_p1
  refine nm_r (e' := 13) (by decide +kernel) ?_
  refine nm_r (e' := 0) (by decide +kernel) ?_
  refine nm_r (e' := 0) (by decide +kernel) ?_
  refine nm_r (e' := 2) (by decide +kernel) ?_
  refine And.intro (vp_in_iff.mpr (by decide +kernel)) ?_
  refine nm_r (e' := x) rfl ?_
  refine And.intro (vp_in_iff.mpr (by decide +kernel)) ?_
  refine nm_r (e' := x) rfl ?_
  refine And.intro (vp_in_iff.mpr (by decide +kernel)) ?_
  refine And.intro (vp_in_iff.mpr (by decide +kernel)) ?_
  refine nm_r (ux_up (l' := [1]) (k' := 0) (v' := 1) (by decide +kernel) (by decide +kernel) rfl) ?_
  refine br_f (by decide +kernel) ?_
  refine br_t (by decide +kernel) ?_
  refine br_t (by decide +kernel) ?_
  refine br_f (by decide +kernel) ?_
  refine br_f (by decide +kernel) ?_
  refine br_f (by decide +kernel) ?_
  refine br_f (by decide +kernel) ?_
  refine br_f (by decide +kernel) ?_
  refine br_f (by decide +kernel) ?_
  refine br_f (by decide +kernel) ?_
  refine br_f (by decide +kernel) ?_
  refine br_f (by decide +kernel) ?_
  refine br_f (by decide +kernel) ?_
  refine ux_callKernel_3 h0 (by decide +kernel) (by decide +kernel) (by decide +kernel) (by decide +kernel) (by decide +kernel) ?_
  exact hp
theorem ux_execute_8 {x : Int32} (h0 : x < 0) {post : St2 → Prop} {p0 : Int32} {p1 : Int32} (h_p0 : p0 = 0) (h_p1 : p1 = 39457) (hp : post (1, 1, 1, (-1), (-1), 2, 0, (ux_l [0, 0, 0, 0]), (ux_l [0, (-1), (-1)]), (ux_l [1]), (ux_l [1037, 39457, 48, 0]), (ux_l [2, 1]), (ux_l [1, 3]), (ux_l [0, 0, 0, 0, 0, 0]), (ux_l [0, 1]), (ux_l [0, 0]), (ux_l [3]), (ux_l [1]), (ux_l [0, 0]), (fun _ => 0), (fun _ => 0), (fun _ => 0), (fun _ => 0), (fun _ => 0), (fun _ => 0), (fun _ => 0), (fun _ => 0), (fun _ => 0), (ux_l [1]), (ux_l [(-1), (-1), (-1), (-1), (-1)]), (ux_l [2]), (ux_l [3]), (ux_l [1037, 39457, 48]), (ux_l [x, 77, 0, (-1)]), (ux_l [0]), (ux_l [0, 0, 0, 0]), (ux_l [(-1)]), (fun _ => 0))) : wpX_execute post (1, 1, 1, (-1), (-1), 2, 0, (ux_l [0, 0, 0, 0]), (ux_l [0, (-1), (-1)]), (ux_l [1]), (ux_l [1037, 39457, 48, 0]), (ux_l [2, 1]), (ux_l [1, 3]), (ux_l [0, 0, 0, 0, 0, 0]), (ux_l [0, 1]), (ux_l [0, 0]), (ux_l [3]), (ux_l [1]), (ux_l [0, 0]), (fun _ => 0), (fun _ => 0), (fun _ => 0), (fun _ => 0), (fun _ => 0), (fun _ => 0), (fun _ => 0), (fun _ => 0), (fun _ => 0), (ux_l [1]), (ux_l [(-1), (-1), (-1), (-1), (-1)]), (ux_l [1]), (ux_l [3]), (ux_l [1037, 39457, 48]), (ux_l [x, 0, 0, (-1)]), (ux_l [0]), (ux_l [0, 0, 0, 0]), (ux_l [(-1)]), (fun _ => 0)) p0 p1 := by
  subst h_p0
  subst h_p1
  refine nm_r (e' := 1) (by decide +kernel) ?_
  refine nm_r (e' := 1) (by decide +kernel) ?_
  refine nm_r (e' := 0) (by decide +kernel) ?_
  refine nm_r (e' := 77) (by decide +kernel) ?_
  refine And.intro (vp_in_iff.mpr (by decide +kernel)) ?_
  refine nm_r (e' := 0) rfl ?_
  refine And.intro (vp_in_iff.mpr (by decide +kernel)) ?_
  refine nm_r (e' := x) rfl ?_
  refine And.intro (vp_in_iff.mpr (by decide +kernel)) ?_
  refine And.intro (vp_in_iff.mpr (by decide +kernel)) ?_
  refine nm_r (ux_up (l' := [2]) (k' := 0) (v' := 2) (by decide +kernel) (by decide +kernel) rfl) ?_
  refine br_f (by decide +kernel) ?_
  refine br_f (by decide +kernel) ?_
  refine br_t (by decide +kernel) ?_
  refine And.intro (vp_in_iff.mpr (by decide +kernel)) ?_
  refine nm_r (ux_up (l' := [x, 77, 0, (-1)]) (k' := 1) (v' := 77) (by decide +kernel) (by decide +kernel) rfl) ?_
  exact hp
theorem ux_write_3 {x : Int32} (h0 : x < 0) {post : St2 → Prop} {p0 : Int32} {p1 : Int32} (h_p0 : p0 = 0) (h_p1 : p1 = 77) (hp : post (1, 1, 1, (-1), (-1), 3, 0, (ux_l [0, 0, 0, 0]), (ux_l [0, (-1), (-1)]), (ux_l [1]), (ux_l [1037, 39457, 48, 0]), (ux_l [2, 1]), (ux_l [1, 3]), (ux_l [0, 0, 0, 0, 0, 0]), (ux_l [0, 1]), (ux_l [0, 0]), (ux_l [3]), (ux_l [1]), (ux_l [0, 0]), (fun _ => 0), (fun _ => 0), (fun _ => 0), (fun _ => 0), (fun _ => 0), (fun _ => 0), (fun _ => 0), (fun _ => 0), (fun _ => 0), (ux_l [1]), (ux_l [(-1), (-1), (-1), (-1), (-1)]), (ux_l [3]), (ux_l [3]), (ux_l [1037, 39457, 48]), (ux_l [x, 77, 0, (-1)]), (ux_l [0]), (ux_l [0, 0, 0, 0]), (ux_l [(-1)]), (fun _ => 0))) : wpX_write post (1, 1, 1, (-1), (-1), 3, 0, (ux_l [0, 0, 0, 0]), (ux_l [0, (-1), (-1)]), (ux_l [1]), (ux_l [1037, 39457, 48, 0]), (ux_l [2, 1]), (ux_l [1, 3]), (ux_l [0, 0, 0, 0, 0, 0]), (ux_l [0, 1]), (ux_l [0, 0]), (ux_l [3]), (ux_l [1]), (ux_l [0, 0]), (fun _ => 0), (fun _ => 0), (fun _ => 0), (fun _ => 0), (fun _ => 0), (fun _ => 0), (fun _ => 0), (fun _ => 0), (fun _ => 0), (ux_l [1]), (ux_l [(-1), (-1), (-1), (-1), (-1)]), (ux_l [3]), (ux_l [3]), (ux_l [1037, 39457, 48]), (ux_l [x, 77, 0, (-1)]), (ux_l [0]), (ux_l [0, 0, 0, 0]), (ux_l [(-1)]), (fun _ => 0)) p0 p1 x := by
  subst h_p0
  subst h_p1
  refine br_t h0 ?_
  refine br_t (by decide +kernel) ?_
  refine br_t (by decide +kernel) ?_
  refine br_t (by decide +kernel) ?_
  refine br_t (by decide +kernel) ?_
  refine And.intro (vp_in_iff.mpr (by decide +kernel)) ?_
  refine nm_r (ux_up (l' := [x, 77, 0, (-1)]) (k' := 3) (v' := (-1)) (by decide +kernel) (by decide +kernel) rfl) ?_
  exact hp
theorem ux_execute_9 {x : Int32} (h0 : x < 0) {post : St2 → Prop} {p0 : Int32} {p1 : Int32} (h_p0 : p0 = 0) (h_p1 : p1 = 48) (hp : post (1, 1, 1, (-1), (-1), 3, 0, (ux_l [0, 0, 0, 0]), (ux_l [0, (-1), (-1)]), (ux_l [1]), (ux_l [1037, 39457, 48, 0]), (ux_l [2, 1]), (ux_l [1, 3]), (ux_l [0, 0, 0, 0, 0, 0]), (ux_l [0, 1]), (ux_l [0, 0]), (ux_l [3]), (ux_l [1]), (ux_l [0, 0]), (fun _ => 0), (fun _ => 0), (fun _ => 0), (fun _ => 0), (fun _ => 0), (fun _ => 0), (fun _ => 0), (fun _ => 0), (fun _ => 0), (ux_l [1]), (ux_l [(-1), (-1), (-1), (-1), (-1)]), (ux_l [3]), (ux_l [3]), (ux_l [1037, 39457, 48]), (ux_l [x, 77, 0, (-1)]), (ux_l [0]), (ux_l [0, 0, 0, 0]), (ux_l [(-1)]), (fun _ => 0))) : wpX_execute post (1, 1, 1, (-1), (-1), 3, 0, (ux_l [0, 0, 0, 0]), (ux_l [0, (-1), (-1)]), (ux_l [1]), (ux_l [1037, 39457, 48, 0]), (ux_l [2, 1]), (ux_l [1, 3]), (ux_l [0, 0, 0, 0, 0, 0]), (ux_l [0, 1]), (ux_l [0, 0]), (ux_l [3]), (ux_l [1]), (ux_l [0, 0]), (fun _ => 0), (fun _ => 0), (fun _ => 0), (fun _ => 0), (fun _ => 0), (fun _ => 0), (fun _ => 0), (fun _ => 0), (fun _ => 0), (ux_l [1]), (ux_l [(-1), (-1), (-1), (-1), (-1)]), (ux_l [2]), (ux_l [3]), (ux_l [1037, 39457, 48]), (ux_l [x, 77, 0, (-1)]), (ux_l [0]), (ux_l [0, 0, 0, 0]), (ux_l [(-1)]), (fun _ => 0)) p0 p1 := by
  subst h_p0
  subst h_p1
  refine nm_r (e' := 16) (by decide +kernel) ?_
  refine nm_r (e' := 1) (by decide +kernel) ?_
  refine nm_r (e' := 0) (by decide +kernel) ?_
  refine nm_r (e' := 0) (by decide +kernel) ?_
  refine And.intro (vp_in_iff.mpr (by decide +kernel)) ?_
  refine nm_r (e' := 77) rfl ?_
  refine And.intro (vp_in_iff.mpr (by decide +kernel)) ?_
  refine nm_r (e' := x) rfl ?_
  refine And.intro (vp_in_iff.mpr (by decide +kernel)) ?_
  refine And.intro (vp_in_iff.mpr (by decide +kernel)) ?_
  refine nm_r (ux_up (l' := [3]) (k' := 0) (v' := 3) (by decide +kernel) (by decide +kernel) rfl) ?_
  refine br_f (by decide +kernel) ?_
  refine br_t (by decide +kernel) ?_
  refine br_t (by decide +kernel) ?_
  refine br_f (by decide +kernel) ?_
  refine br_f (by decide +kernel) ?_
  refine br_f (by decide +kernel) ?_
  refine br_t (by decide +kernel) ?_
  refine ux_write_3 h0 (by decide +kernel) (by decide +kernel) ?_
  exact hp
theorem ux_work_3 {x : Int32} (h0 : x < 0) {post : St2 → Prop} {p0 : Int32} (h_p0 : p0 = 0) (hp : post (1, 1, 1, (-1), (-1), 3, 0, (ux_l [0, 0, 0, 0]), (ux_l [0, (-1), (-1)]), (ux_l [1]), (ux_l [1037, 39457, 48, 0]), (ux_l [2, 1]), (ux_l [1, 3]), (ux_l [0, 0, 0, 0, 0, 0]), (ux_l [0, 1]), (ux_l [0, 0]), (ux_l [3]), (ux_l [1]), (ux_l [0, 0]), (fun _ => 0), (fun _ => 0), (fun _ => 0), (fun _ => 0), (fun _ => 0), (fun _ => 0), (fun _ => 0), (fun _ => 0), (fun _ => 0), (ux_l [1]), (ux_l [(-1), (-1), (-1), (-1), (-1)]), (ux_l [3]), (ux_l [3]), (ux_l [1037, 39457, 48]), (ux_l [x, 77, 0, (-1)]), (ux_l [0]), (ux_l [0, 0, 0, 0]), (ux_l [(-1)]), (fun _ => 0))) : wpX_work post (1, 1, 1, (-1), (-1), 0, 0, (ux_l [0, 0, 0, 0]), (ux_l [0, (-1), (-1)]), (ux_l [1]), (ux_l [1037, 39457, 48, 0]), (ux_l [2, 1]), (ux_l [1, 3]), (ux_l [0, 0, 0, 0, 0, 0]), (ux_l [0, 1]), (ux_l [0, 0]), (ux_l [3]), (ux_l [1]), (ux_l [0, 0]), (fun _ => 0), (fun _ => 0), (fun _ => 0), (fun _ => 0), (fun _ => 0), (fun _ => 0), (fun _ => 0), (fun _ => 0), (fun _ => 0), (ux_l [1]), (ux_l [(-1), (-1), (-1), (-1), (-1)]), (ux_l [0]), (ux_l [3]), (ux_l [1037, 39457, 48]), (ux_l [x, 0, 0, 0]), (ux_l [0]), (ux_l [0, 0, 0, 0]), (ux_l [(-1)]), (fun _ => 0)) p0 := by
  subst h_p0
  refine Exists.intro 24 ?_
  refine br_f (by decide +kernel) ?_
  refine br_f (by decide +kernel) ?_
  refine And.intro (vp_in_iff.mpr (by decide +kernel)) ?_
  refine nm_r (e' := 0) (by decide +kernel) ?_
  refine br_f (by decide +kernel) ?_
  refine And.intro (vp_in_iff.mpr (by decide +kernel)) ?_
  refine br_t (by decide +kernel) ?_
  refine And.intro (vp_in_iff.mpr (by decide +kernel)) ?_
  refine And.intro (vp_in_iff.mpr (by decide +kernel)) ?_
  refine nm_r (e' := 1037) (by decide +kernel) ?_
  refine nm_r (e' := 13) (by decide +kernel) ?_
  refine br_f (by decide +kernel) ?_
  refine br_f (by decide +kernel) ?_
  refine br_f (by decide +kernel) ?_
  refine br_t (by decide +kernel) ?_
  refine nm_r (e' := 1) (by decide +kernel) ?_
  refine And.intro (vp_in_iff.mpr (by decide +kernel)) ?_
  refine nm_r (e' := 1037) (by decide +kernel) ?_
  refine ux_execute_7 h0 (by decide +kernel) (by decide +kernel) ?_
  refine And.intro (vp_in_iff.mpr (by decide +kernel)) ?_
  refine br_t (by decide +kernel) ?_
  refine br_f (by decide +kernel) ?_
  refine nm_r (e' := 1) (by decide +kernel) ?_
  refine br_f (by decide +kernel) ?_
  refine br_f (by decide +kernel) ?_
  refine And.intro (vp_in_iff.mpr (by decide +kernel)) ?_
  refine nm_r (e' := 1) (by decide +kernel) ?_
  refine br_f (by decide +kernel) ?_
  refine And.intro (vp_in_iff.mpr (by decide +kernel)) ?_
  refine br_t (by decide +kernel) ?_
  refine And.intro (vp_in_iff.mpr (by decide +kernel)) ?_
  refine And.intro (vp_in_iff.mpr (by decide +kernel)) ?_
  refine nm_r (e' := 39457) (by decide +kernel) ?_
  refine nm_r (e' := 1) (by decide +kernel) ?_
  refine br_f (by decide +kernel) ?_
  refine br_f (by decide +kernel) ?_
  refine br_f (by decide +kernel) ?_
  refine br_t (by decide +kernel) ?_
  refine nm_r (e' := 2) (by decide +kernel) ?_
  refine And.intro (vp_in_iff.mpr (by decide +kernel)) ?_
  refine nm_r (e' := 39457) (by decide +kernel) ?_
  refine ux_execute_8 h0 (by decide +kernel) (by decide +kernel) ?_
  refine And.intro (vp_in_iff.mpr (by decide +kernel)) ?_
  refine br_t (by decide +kernel) ?_
  refine br_f (by decide +kernel) ?_
  refine nm_r (e' := 2) (by decide +kernel) ?_
  refine br_f (by decide +kernel) ?_
  refine br_f (by decide +kernel) ?_
  refine And.intro (vp_in_iff.mpr (by decide +kernel)) ?_
  refine nm_r (e' := 2) (by decide +kernel) ?_
  refine br_f (by decide +kernel) ?_
  refine And.intro (vp_in_iff.mpr (by decide +kernel)) ?_
  refine br_t (by decide +kernel) ?_
  refine And.intro (vp_in_iff.mpr (by decide +kernel)) ?_
  refine And.intro (vp_in_iff.mpr (by decide +kernel)) ?_
  refine nm_r (e' := 48) (by decide +kernel) ?_
  refine nm_r (e' := 16) (by decide +kernel) ?_
  refine br_f (by decide +kernel) ?_
  refine br_f (by decide +kernel) ?_
  refine br_t (by decide +kernel) ?_
  refine And.intro (vp_in_iff.mpr (by decide +kernel)) ?_
  refine br_t h0 ?_
  refine br_t (by decide +kernel) ?_
  refine br_t (by decide +kernel) ?_
  refine nm_r (e' := 3) (by decide +kernel) ?_
  refine And.intro (vp_in_iff.mpr (by decide +kernel)) ?_
  refine nm_r (e' := 48) (by decide +kernel) ?_
  refine ux_execute_9 h0 (by decide +kernel) (by decide +kernel) ?_
  refine And.intro (vp_in_iff.mpr (by decide +kernel)) ?_
  refine br_t (by decide +kernel) ?_
  refine br_f (by decide +kernel) ?_
  refine nm_r (e' := 3) (by decide +kernel) ?_
  refine br_t (by decide +kernel) ?_
  exact hp
theorem ux_enqueue_6 {x : Int32} (h0 : x < 0) {post : St2 → Prop} {p0 : Int32} (h_p0 : p0 = 0) (hp : post (1, 1, 1, 0, 0, 3, 0, (ux_l [0, 0, 0, 0]), (ux_l [0, (-1), (-1)]), (ux_l [1]), (ux_l [1037, 39457, 48, 0]), (ux_l [2, 1]), (ux_l [1, 3]), (ux_l [0, 0, 0, 0, 0, 0]), (ux_l [0, 1]), (ux_l [0, 0]), (ux_l [3]), (ux_l [1]), (ux_l [0, 0]), (fun _ => 0), (fun _ => 0), (fun _ => 0), (fun _ => 0), (fun _ => 0), (fun _ => 0), (fun _ => 0), (fun _ => 0), (fun _ => 0), (ux_l [1]), (ux_l [(-1), (-1), (-1), (-1), (-1)]), (ux_l [3]), (ux_l [3]), (ux_l [1037, 39457, 48]), (ux_l [x, 77, 0, (-1)]), (ux_l [0]), (ux_l [0, 0, 0, 0]), (ux_l [(-1)]), (fun _ => 0))) : wpX_enqueue post (1, 1, 1, (-1), (-1), 3, 0, (ux_l [0, 0, 0, 0]), (ux_l [0, (-1), (-1)]), (ux_l [1]), (ux_l [1037, 39457, 48, 0]), (ux_l [2, 1]), (ux_l [1, 3]), (ux_l [0, 0, 0, 0, 0, 0]), (ux_l [0, 1]), (ux_l [0, 0]), (ux_l [3]), (ux_l [1]), (ux_l [0, 0]), (fun _ => 0), (fun _ => 0), (fun _ => 0), (fun _ => 0), (fun _ => 0), (fun _ => 0), (fun _ => 0), (fun _ => 0), (fun _ => 0), (ux_l [1]), (ux_l [(-1), (-1), (-1), (-1), (-1)]), (ux_l [3]), (ux_l [3]), (ux_l [1037, 39457, 48]), (ux_l [x, 77, 0, (-1)]), (ux_l [0]), (ux_l [0, 0, 0, 0]), (ux_l [(-1)]), (fun _ => 0)) p0 := by
  subst h_p0
  refine And.intro (vp_in_iff.mpr (by decide +kernel)) ?_
  refine nm_r (ux_up (l' := [(-1)]) (k' := 0) (v' := (-1)) (by decide +kernel) (by decide +kernel) rfl) ?_
  refine br_t (by decide +kernel) ?_
  exact hp
theorem ux_turn_3 {x : Int32} (h0 : x < 0) {post : Int32 → St2 → Prop} (hp : post 1 (1, 1, 1, 0, 0, 3, 0, (ux_l [0, 0, 0, 0]), (ux_l [0, (-1), (-1)]), (ux_l [1]), (ux_l [1037, 39457, 48, 0]), (ux_l [2, 1]), (ux_l [1, 3]), (ux_l [0, 0, 0, 0, 0, 0]), (ux_l [0, 1]), (ux_l [0, 0]), (ux_l [3]), (ux_l [1]), (ux_l [0, 0]), (fun _ => 0), (fun _ => 0), (fun _ => 0), (fun _ => 0), (fun _ => 0), (fun _ => 0), (fun _ => 0), (fun _ => 0), (fun _ => 0), (ux_l [1]), (ux_l [(-1), (-1), (-1), (-1), (-1)]), (ux_l [3]), (ux_l [3]), (ux_l [1037, 39457, 48]), (ux_l [x, 77, 0, (-1)]), (ux_l [0]), (ux_l [0, 0, 0, 0]), (ux_l [(-1)]), (fun _ => 0))) : wpX_turn post (1, 1, 1, 0, 0, 0, 0, (ux_l [0, 0, 0, 0]), (ux_l [0, (-1), (-1)]), (ux_l [1]), (ux_l [1037, 39457, 48, 0]), (ux_l [2, 1]), (ux_l [1, 3]), (ux_l [0, 0, 0, 0, 0, 0]), (ux_l [0, 1]), (ux_l [0, 0]), (ux_l [3]), (ux_l [1]), (ux_l [0, 0]), (fun _ => 0), (fun _ => 0), (fun _ => 0), (fun _ => 0), (fun _ => 0), (fun _ => 0), (fun _ => 0), (fun _ => 0), (fun _ => 0), (ux_l [1]), (ux_l [(-1), (-1), (-1), (-1), (-1)]), (ux_l [0]), (ux_l [3]), (ux_l [1037, 39457, 48]), (ux_l [x, 0, 0, 0]), (ux_l [0]), (ux_l [0, 0, 0, 0]), (ux_l [(-1)]), (fun _ => 0)) := by
  refine Exists.intro 24 ?_
  refine br_f (by decide +kernel) ?_
  refine And.intro (vp_in_iff.mpr (by decide +kernel)) ?_
  refine br_f (by decide +kernel) ?_
  refine nm_r (e' := 1) (by decide +kernel) ?_
  refine br_f (by decide +kernel) ?_
  refine And.intro (vp_in_iff.mpr (by decide +kernel)) ?_
  refine br_f (by decide +kernel) ?_
  refine nm_r (e' := 2) (by decide +kernel) ?_
  refine br_f (by decide +kernel) ?_
  refine And.intro (vp_in_iff.mpr (by decide +kernel)) ?_
  refine br_f (by decide +kernel) ?_
  refine nm_r (e' := 3) (by decide +kernel) ?_
  refine br_f (by decide +kernel) ?_
  refine And.intro (vp_in_iff.mpr (by decide +kernel)) ?_
  refine br_f (by decide +kernel) ?_
  refine nm_r (e' := 4) (by decide +kernel) ?_
  refine br_f (by decide +kernel) ?_
  refine And.intro (vp_in_iff.mpr (by decide +kernel)) ?_
  refine br_f (by decide +kernel) ?_
  refine nm_r (e' := 5) (by decide +kernel) ?_
  refine br_t (by decide +kernel) ?_
  refine ux_dequeue_3 h0  ?_
  refine br_t (by decide +kernel) ?_
  refine ux_work_3 h0 (by decide +kernel) ?_
  refine And.intro (vp_in_iff.mpr (by decide +kernel)) ?_
  refine br_t (by decide +kernel) ?_
  refine ux_enqueue_6 h0 (by decide +kernel) ?_
  exact hp
theorem ux_run_3 {x : Int32} (h0 : x < 0) {post : Int32 → St2 → Prop} {p0 : Int32} (h_p0 : p0 = 1) (hp : post 1 (1, 1, 1, 0, 0, 3, 0, (ux_l [0, 0, 0, 0]), (ux_l [0, (-1), (-1)]), (ux_l [1]), (ux_l [1037, 39457, 48, 0]), (ux_l [2, 1]), (ux_l [1, 3]), (ux_l [0, 0, 0, 0, 0, 0]), (ux_l [0, 1]), (ux_l [0, 0]), (ux_l [3]), (ux_l [1]), (ux_l [0, 0]), (fun _ => 0), (fun _ => 0), (fun _ => 0), (fun _ => 0), (fun _ => 0), (fun _ => 0), (fun _ => 0), (fun _ => 0), (fun _ => 0), (ux_l [1]), (ux_l [(-1), (-1), (-1), (-1), (-1)]), (ux_l [3]), (ux_l [3]), (ux_l [1037, 39457, 48]), (ux_l [x, 77, 0, (-1)]), (ux_l [0]), (ux_l [0, 0, 0, 0]), (ux_l [(-1)]), (fun _ => 0))) : wpX_run post (1, 1, 1, 0, 0, 0, 0, (ux_l [0, 0, 0, 0]), (ux_l [0, (-1), (-1)]), (ux_l [1]), (ux_l [1037, 39457, 48, 0]), (ux_l [2, 1]), (ux_l [1, 3]), (ux_l [0, 0, 0, 0, 0, 0]), (ux_l [0, 1]), (ux_l [0, 0]), (ux_l [3]), (ux_l [1]), (ux_l [0, 0]), (fun _ => 0), (fun _ => 0), (fun _ => 0), (fun _ => 0), (fun _ => 0), (fun _ => 0), (fun _ => 0), (fun _ => 0), (fun _ => 0), (ux_l [1]), (ux_l [(-1), (-1), (-1), (-1), (-1)]), (ux_l [0]), (ux_l [3]), (ux_l [1037, 39457, 48]), (ux_l [x, 0, 0, 0]), (ux_l [0]), (ux_l [0, 0, 0, 0]), (ux_l [(-1)]), (fun _ => 0)) p0 := by
  subst h_p0
  refine br_t (by decide +kernel) ?_
  refine br_t (by decide +kernel) ?_
  refine Exists.intro 24 ?_
  refine br_f (by decide +kernel) ?_
  refine br_f (by decide +kernel) ?_
  refine ux_turn_3 h0  ?_
  refine br_f (by decide +kernel) ?_
  refine nm_r (e' := 1) (by decide +kernel) ?_
  refine br_t (by decide +kernel) ?_
  exact ek_v (P := fun r => post r (1, 1, 1, 0, 0, 3, 0, (ux_l [0, 0, 0, 0]), (ux_l [0, (-1), (-1)]), (ux_l [1]), (ux_l [1037, 39457, 48, 0]), (ux_l [2, 1]), (ux_l [1, 3]), (ux_l [0, 0, 0, 0, 0, 0]), (ux_l [0, 1]), (ux_l [0, 0]), (ux_l [3]), (ux_l [1]), (ux_l [0, 0]), (fun _ => 0), (fun _ => 0), (fun _ => 0), (fun _ => 0), (fun _ => 0), (fun _ => 0), (fun _ => 0), (fun _ => 0), (fun _ => 0), (ux_l [1]), (ux_l [(-1), (-1), (-1), (-1), (-1)]), (ux_l [3]), (ux_l [3]), (ux_l [1037, 39457, 48]), (ux_l [x, 77, 0, (-1)]), (ux_l [0]), (ux_l [0, 0, 0, 0]), (ux_l [(-1)]), (fun _ => 0))) rfl hp
theorem ux_kind_3 {x : Int32} (h0 : x < 0) {post : Int32 → Prop} {p0 : Int32} (h_p0 : p0 = 2) (hp : post 0) : wpX_kind post (1, 1, 1, 0, 0, 3, 0, (ux_l [0, 0, 0, 0]), (ux_l [0, (-1), (-1)]), (ux_l [1]), (ux_l [1037, 39457, 48, 0]), (ux_l [2, 1]), (ux_l [1, 3]), (ux_l [0, 0, 0, 0, 0, 0]), (ux_l [0, 1]), (ux_l [0, 0]), (ux_l [3]), (ux_l [1]), (ux_l [0, 0]), (fun _ => 0), (fun _ => 0), (fun _ => 0), (fun _ => 0), (fun _ => 0), (fun _ => 0), (fun _ => 0), (fun _ => 0), (fun _ => 0), (ux_l [1]), (ux_l [(-1), (-1), (-1), (-1), (-1)]), (ux_l [3]), (ux_l [3]), (ux_l [1037, 39457, 48]), (ux_l [x, 77, 0, (-1)]), (ux_l [0]), (ux_l [0, 0, 0, 0]), (ux_l [(-1)]), (fun _ => 0)) p0 := by
  subst h_p0
  refine br_f (by decide +kernel) ?_
  refine br_f (by decide +kernel) ?_
  refine br_f (by decide +kernel) ?_
  refine And.intro (vp_in_iff.mpr (by decide +kernel)) ?_
  exact ek_v (P := fun r => post r ) rfl hp
theorem ux_word_3 {x : Int32} (h0 : x < 0) {post : Int32 → St2 → Prop} {p0 : Int32} {p1 : Int32} (h_p0 : p0 = 2) (h_p1 : p1 = 0) (hp : post 0 (1, 1, 1, 0, 0, 3, 0, (ux_l [0, 0, 0, 0]), (ux_l [0, (-1), (-1)]), (ux_l [1]), (ux_l [1037, 39457, 48, 0]), (ux_l [2, 1]), (ux_l [1, 3]), (ux_l [0, 0, 0, 0, 0, 0]), (ux_l [0, 1]), (ux_l [0, 0]), (ux_l [3]), (ux_l [1]), (ux_l [0, 0]), (fun _ => 0), (fun _ => 0), (fun _ => 0), (fun _ => 0), (fun _ => 0), (fun _ => 0), (fun _ => 0), (fun _ => 0), (fun _ => 0), (ux_l [1]), (ux_l [(-1), (-1), (-1), (-1), (-1)]), (ux_l [3]), (ux_l [3]), (ux_l [1037, 39457, 48]), (ux_l [x, 77, 0, (-1)]), (ux_l [0]), (ux_l [0, 0, 0, 0]), (ux_l [(-1)]), (fun _ => 0))) : wpX_word post (1, 1, 1, 0, 0, 3, 0, (ux_l [0, 0, 0, 0]), (ux_l [0, (-1), (-1)]), (ux_l [1]), (ux_l [1037, 39457, 48, 0]), (ux_l [2, 1]), (ux_l [1, 3]), (ux_l [0, 0, 0, 0, 0, 0]), (ux_l [0, 1]), (ux_l [0, 0]), (ux_l [3]), (ux_l [1]), (ux_l [0, 0]), (fun _ => 0), (fun _ => 0), (fun _ => 0), (fun _ => 0), (fun _ => 0), (fun _ => 0), (fun _ => 0), (fun _ => 0), (fun _ => 0), (ux_l [1]), (ux_l [(-1), (-1), (-1), (-1), (-1)]), (ux_l [3]), (ux_l [3]), (ux_l [1037, 39457, 48]), (ux_l [x, 77, 0, (-1)]), (ux_l [0]), (ux_l [0, 0, 0, 0]), (ux_l [(-1)]), (fun _ => 0)) p0 p1 := by
  subst h_p0
  subst h_p1
  refine br_f (by decide +kernel) ?_
  refine br_f (by decide +kernel) ?_
  refine br_f (by decide +kernel) ?_
  refine And.intro (vp_in_iff.mpr (by decide +kernel)) ?_
  refine br_f (by decide +kernel) ?_
  exact hp
theorem ux_descriptor_3 {x : Int32} (h0 : x < 0) {post : Int32 → Prop} {p0 : Int32} {p1 : Int32} (h_p0 : p0 = 0) (h_p1 : p1 = 0) (hp : post 0) : wpX_descriptor post (1, 1, 1, 0, 0, 3, 0, (ux_l [0, 0, 0, 0]), (ux_l [0, (-1), (-1)]), (ux_l [1]), (ux_l [1037, 39457, 48, 0]), (ux_l [2, 1]), (ux_l [1, 3]), (ux_l [0, 0, 0, 0, 0, 0]), (ux_l [0, 1]), (ux_l [0, 0]), (ux_l [3]), (ux_l [1]), (ux_l [0, 0]), (fun _ => 0), (fun _ => 0), (fun _ => 0), (fun _ => 0), (fun _ => 0), (fun _ => 0), (fun _ => 0), (fun _ => 0), (fun _ => 0), (ux_l [1]), (ux_l [(-1), (-1), (-1), (-1), (-1)]), (ux_l [3]), (ux_l [3]), (ux_l [1037, 39457, 48]), (ux_l [x, 77, 0, (-1)]), (ux_l [0]), (ux_l [0, 0, 0, 0]), (ux_l [(-1)]), (fun _ => 0)) p0 p1 := by
  subst h_p0
  subst h_p1
  refine br_f (by decide +kernel) ?_
  refine br_f (by decide +kernel) ?_
  refine br_f (by decide +kernel) ?_
  refine And.intro (vp_in_iff.mpr (by decide +kernel)) ?_
  refine br_t (by decide +kernel) ?_
  refine br_f (by decide +kernel) ?_
  refine br_f (by decide +kernel) ?_
  refine br_t (by decide +kernel) ?_
  refine And.intro (vp_in_iff.mpr (by decide +kernel)) ?_
  refine nm_r (e' := 0) (by decide +kernel) ?_
  refine br_t (by decide +kernel) ?_
  exact hp
theorem ux_size_3 {x : Int32} (h0 : x < 0) {post : Int32 → Prop} {p0 : Int32} (h_p0 : p0 = 1) (hp : post 3) : wpX_size post (1, 1, 1, 0, 0, 3, 0, (ux_l [0, 0, 0, 0]), (ux_l [0, (-1), (-1)]), (ux_l [1]), (ux_l [1037, 39457, 48, 0]), (ux_l [2, 1]), (ux_l [1, 3]), (ux_l [0, 0, 0, 0, 0, 0]), (ux_l [0, 1]), (ux_l [0, 0]), (ux_l [3]), (ux_l [1]), (ux_l [0, 0]), (fun _ => 0), (fun _ => 0), (fun _ => 0), (fun _ => 0), (fun _ => 0), (fun _ => 0), (fun _ => 0), (fun _ => 0), (fun _ => 0), (ux_l [1]), (ux_l [(-1), (-1), (-1), (-1), (-1)]), (ux_l [3]), (ux_l [3]), (ux_l [1037, 39457, 48]), (ux_l [x, 77, 0, (-1)]), (ux_l [0]), (ux_l [0, 0, 0, 0]), (ux_l [(-1)]), (fun _ => 0)) p0 := by
  subst h_p0
  refine br_f (by decide +kernel) ?_
  refine br_f (by decide +kernel) ?_
  refine br_f (by decide +kernel) ?_
  refine And.intro (vp_in_iff.mpr (by decide +kernel)) ?_
  refine br_f (by decide +kernel) ?_
  refine And.intro (vp_in_iff.mpr (by decide +kernel)) ?_
  exact ek_v (P := fun r => post r ) rfl hp
theorem ux_register_3 {x : Int32} (h0 : x < 0) {post : Int32 → Prop} {p0 : Int32} {p1 : Int32} (h_p0 : p0 = 0) (h_p1 : p1 = 3) (hp : post (-1)) : wpX_register post (1, 1, 1, 0, 0, 3, 0, (ux_l [0, 0, 0, 0]), (ux_l [0, (-1), (-1)]), (ux_l [1]), (ux_l [1037, 39457, 48, 0]), (ux_l [2, 1]), (ux_l [1, 3]), (ux_l [0, 0, 0, 0, 0, 0]), (ux_l [0, 1]), (ux_l [0, 0]), (ux_l [3]), (ux_l [1]), (ux_l [0, 0]), (fun _ => 0), (fun _ => 0), (fun _ => 0), (fun _ => 0), (fun _ => 0), (fun _ => 0), (fun _ => 0), (fun _ => 0), (fun _ => 0), (ux_l [1]), (ux_l [(-1), (-1), (-1), (-1), (-1)]), (ux_l [3]), (ux_l [3]), (ux_l [1037, 39457, 48]), (ux_l [x, 77, 0, (-1)]), (ux_l [0]), (ux_l [0, 0, 0, 0]), (ux_l [(-1)]), (fun _ => 0)) p0 p1 := by
  subst h_p0
  subst h_p1
  refine br_f (by decide +kernel) ?_
  refine br_f (by decide +kernel) ?_
  refine br_f (by decide +kernel) ?_
  refine And.intro (vp_in_iff.mpr (by decide +kernel)) ?_
  refine br_t (by decide +kernel) ?_
  refine br_f (by decide +kernel) ?_
  refine br_f (by decide +kernel) ?_
  refine br_f (by decide +kernel) ?_
  refine And.intro (vp_in_iff.mpr (by decide +kernel)) ?_
  exact ek_v (P := fun r => post r ) rfl hp
theorem ux_neg {x : Int32} (h0 : x < 0) : wpL_lawOf (fun r _ => r = 1) 320 5120 () x := by
  refine br_t h0 ?_
  refine And.intro (by decide +kernel) ?_
  refine And.intro (by decide +kernel) ?_
  refine Exists.intro 31 ?_
  refine Exists.intro 680 ?_
  refine And.intro (by decide +kernel) ?_
  refine And.intro (by decide +kernel) ?_
  refine ux_init_1  ?_
  refine ux_file_1 (by decide +kernel) (by decide +kernel) (by decide +kernel) ?_
  refine br_t (by decide +kernel) ?_
  refine ux_file_2 (by decide +kernel) (by decide +kernel) (by decide +kernel) ?_
  refine br_t (by decide +kernel) ?_
  refine ux_file_3 (by decide +kernel) (by decide +kernel) (by decide +kernel) ?_
  refine br_t (by decide +kernel) ?_
  refine ux_spawn_3 h0 (by decide +kernel) ?_
  refine br_t (by decide +kernel) ?_
  refine ux_run_3 h0 (by decide +kernel) ?_
  refine br_t (by decide +kernel) ?_
  refine ux_kind_3 h0 (by decide +kernel) ?_
  refine br_t (by decide +kernel) ?_
  refine br_t (by decide +kernel) ?_
  refine ux_word_3 h0 (by decide +kernel) (by decide +kernel) ?_
  refine br_t (by decide +kernel) ?_
  refine br_t (by decide +kernel) ?_
  refine ux_descriptor_3 h0 (by decide +kernel) (by decide +kernel) ?_
  refine br_t (by decide +kernel) ?_
  refine br_f (ux_n3 h0) ?_
  refine br_t (by decide +kernel) ?_
  refine ux_size_3 h0 (by decide +kernel) ?_
  refine br_f (ux_n3 h0) ?_
  refine br_t (by decide +kernel) ?_
  refine ux_register_3 h0 (by decide +kernel) (by decide +kernel) ?_
  refine br_t (by decide +kernel) ?_
  refine br_f (ux_n3 h0) ?_
  refine br_t (by decide +kernel) ?_
  exact rfl
end
section
theorem ux_slotFor_2_10 {x : Int32} (h14 : 14 < x) {post : Int32 → St2 → Prop} {p0 : Int32} (h_p0 : p0 = 0) (hp : post 0 (1, 1, 1, (-1), (-1), 0, 0, (ux_l [0, 0, 0, 0]), (ux_l [0, (-1), (-1)]), (ux_l [1]), (ux_l [1037, 39457, 48, 0]), (ux_l [2, 1]), (ux_l [1, 3]), (ux_l [0, 0, 0, 0, 0, 0]), (ux_l [0, 1]), (ux_l [0, 0]), (ux_l [3]), (ux_l [1]), (ux_l [0, 0]), (fun _ => 0), (fun _ => 0), (fun _ => 0), (fun _ => 0), (fun _ => 0), (fun _ => 0), (fun _ => 0), (fun _ => 0), (fun _ => 0), (fun _ => 0), (ux_l [(-1), (-1), (-1), (-1), (-1)]), (fun _ => 0), (ux_l [3]), (fun _ => 0), (ux_l [x, 0, 0, 0]), (ux_l [0]), (ux_l [0, 0, 0, 0]), (fun _ => 0), (fun _ => 0))) : wpX_slotFor_2 post (1, 1, 1, (-1), (-1), 0, 0, (ux_l [0, 0, 0, 0]), (ux_l [0, (-1), (-1)]), (ux_l [1]), (ux_l [1037, 39457, 48, 0]), (ux_l [2, 1]), (ux_l [1, 3]), (ux_l [0, 0, 0, 0, 0, 0]), (ux_l [0, 1]), (ux_l [0, 0]), (ux_l [3]), (ux_l [1]), (ux_l [0, 0]), (fun _ => 0), (fun _ => 0), (fun _ => 0), (fun _ => 0), (fun _ => 0), (fun _ => 0), (fun _ => 0), (fun _ => 0), (fun _ => 0), (fun _ => 0), (ux_l [(-1), (-1), (-1), (-1), (-1)]), (fun _ => 0), (ux_l [3]), (fun _ => 0), (ux_l [x, 0, 0, 0]), (ux_l [0]), (ux_l [0, 0, 0, 0]), (fun _ => 0), (fun _ => 0)) p0 := by
  subst h_p0
  refine Exists.intro 24 ?_
  refine br_f (by decide +kernel) ?_
  refine And.intro (vp_in_iff.mpr (by decide +kernel)) ?_
  refine br_t (by decide +kernel) ?_
  exact ek_v (P := fun r => post r (1, 1, 1, (-1), (-1), 0, 0, (ux_l [0, 0, 0, 0]), (ux_l [0, (-1), (-1)]), (ux_l [1]), (ux_l [1037, 39457, 48, 0]), (ux_l [2, 1]), (ux_l [1, 3]), (ux_l [0, 0, 0, 0, 0, 0]), (ux_l [0, 1]), (ux_l [0, 0]), (ux_l [3]), (ux_l [1]), (ux_l [0, 0]), (fun _ => 0), (fun _ => 0), (fun _ => 0), (fun _ => 0), (fun _ => 0), (fun _ => 0), (fun _ => 0), (fun _ => 0), (fun _ => 0), (fun _ => 0), (ux_l [(-1), (-1), (-1), (-1), (-1)]), (fun _ => 0), (ux_l [3]), (fun _ => 0), (ux_l [x, 0, 0, 0]), (ux_l [0]), (ux_l [0, 0, 0, 0]), (fun _ => 0), (fun _ => 0))) rfl hp
theorem ux_wordAt_10 {x : Int32} (h14 : 14 < x) {post : Int32 → St2 → Prop} {p0 : Int32} {p1 : Int32} (h_p0 : p0 = 1) (h_p1 : p1 = 0) (hp : post 1037 (1, 1, 1, (-1), (-1), 0, 0, (ux_l [0, 0, 0, 0]), (ux_l [0, (-1), (-1)]), (ux_l [1]), (ux_l [1037, 39457, 48, 0]), (ux_l [2, 1]), (ux_l [1, 3]), (ux_l [0, 0, 0, 0, 0, 0]), (ux_l [0, 1]), (ux_l [0, 0]), (ux_l [3]), (ux_l [1]), (ux_l [0, 0]), (fun _ => 0), (fun _ => 0), (fun _ => 0), (fun _ => 0), (fun _ => 0), (fun _ => 0), (fun _ => 0), (fun _ => 0), (fun _ => 0), (fun _ => 0), (ux_l [(-1), (-1), (-1), (-1), (-1)]), (fun _ => 0), (ux_l [3]), (fun _ => 0), (ux_l [x, 0, 0, 0]), (ux_l [0]), (ux_l [0, 0, 0, 0]), (fun _ => 0), (fun _ => 0))) : wpX_wordAt post (1, 1, 1, (-1), (-1), 0, 0, (ux_l [0, 0, 0, 0]), (ux_l [0, (-1), (-1)]), (ux_l [1]), (ux_l [1037, 39457, 48, 0]), (ux_l [2, 1]), (ux_l [1, 3]), (ux_l [0, 0, 0, 0, 0, 0]), (ux_l [0, 1]), (ux_l [0, 0]), (ux_l [3]), (ux_l [1]), (ux_l [0, 0]), (fun _ => 0), (fun _ => 0), (fun _ => 0), (fun _ => 0), (fun _ => 0), (fun _ => 0), (fun _ => 0), (fun _ => 0), (fun _ => 0), (fun _ => 0), (ux_l [(-1), (-1), (-1), (-1), (-1)]), (fun _ => 0), (ux_l [3]), (fun _ => 0), (ux_l [x, 0, 0, 0]), (ux_l [0]), (ux_l [0, 0, 0, 0]), (fun _ => 0), (fun _ => 0)) p0 p1 := by
  subst h_p0
  subst h_p1
  refine And.intro (by decide +kernel) ?_
  refine And.intro (vp_in_iff.mpr (by decide +kernel)) ?_
  refine nm_r (e' := 0) (by decide +kernel) ?_
  refine br_f (by decide +kernel) ?_
  refine ux_slotFor_2_10 h14 (by decide +kernel) ?_
  refine And.intro (by decide +kernel) ?_
  refine And.intro (vp_in_iff.mpr (by decide +kernel)) ?_
  exact ek_v (P := fun r => post r (1, 1, 1, (-1), (-1), 0, 0, (ux_l [0, 0, 0, 0]), (ux_l [0, (-1), (-1)]), (ux_l [1]), (ux_l [1037, 39457, 48, 0]), (ux_l [2, 1]), (ux_l [1, 3]), (ux_l [0, 0, 0, 0, 0, 0]), (ux_l [0, 1]), (ux_l [0, 0]), (ux_l [3]), (ux_l [1]), (ux_l [0, 0]), (fun _ => 0), (fun _ => 0), (fun _ => 0), (fun _ => 0), (fun _ => 0), (fun _ => 0), (fun _ => 0), (fun _ => 0), (fun _ => 0), (fun _ => 0), (ux_l [(-1), (-1), (-1), (-1), (-1)]), (fun _ => 0), (ux_l [3]), (fun _ => 0), (ux_l [x, 0, 0, 0]), (ux_l [0]), (ux_l [0, 0, 0, 0]), (fun _ => 0), (fun _ => 0))) rfl hp
theorem ux_slotFor_2_11 {x : Int32} (h14 : 14 < x) {post : Int32 → St2 → Prop} {p0 : Int32} (h_p0 : p0 = 0) (hp : post 0 (1, 1, 1, (-1), (-1), 0, 0, (ux_l [0, 0, 0, 0]), (ux_l [0, (-1), (-1)]), (ux_l [1]), (ux_l [1037, 39457, 48, 0]), (ux_l [2, 1]), (ux_l [1, 3]), (ux_l [0, 0, 0, 0, 0, 0]), (ux_l [0, 1]), (ux_l [0, 0]), (ux_l [3]), (ux_l [1]), (ux_l [0, 0]), (fun _ => 0), (fun _ => 0), (fun _ => 0), (fun _ => 0), (fun _ => 0), (fun _ => 0), (fun _ => 0), (fun _ => 0), (fun _ => 0), (fun _ => 0), (ux_l [(-1), (-1), (-1), (-1), (-1)]), (fun _ => 0), (ux_l [3]), (ux_l [1037]), (ux_l [x, 0, 0, 0]), (ux_l [0]), (ux_l [0, 0, 0, 0]), (fun _ => 0), (fun _ => 0))) : wpX_slotFor_2 post (1, 1, 1, (-1), (-1), 0, 0, (ux_l [0, 0, 0, 0]), (ux_l [0, (-1), (-1)]), (ux_l [1]), (ux_l [1037, 39457, 48, 0]), (ux_l [2, 1]), (ux_l [1, 3]), (ux_l [0, 0, 0, 0, 0, 0]), (ux_l [0, 1]), (ux_l [0, 0]), (ux_l [3]), (ux_l [1]), (ux_l [0, 0]), (fun _ => 0), (fun _ => 0), (fun _ => 0), (fun _ => 0), (fun _ => 0), (fun _ => 0), (fun _ => 0), (fun _ => 0), (fun _ => 0), (fun _ => 0), (ux_l [(-1), (-1), (-1), (-1), (-1)]), (fun _ => 0), (ux_l [3]), (ux_l [1037]), (ux_l [x, 0, 0, 0]), (ux_l [0]), (ux_l [0, 0, 0, 0]), (fun _ => 0), (fun _ => 0)) p0 := by
  subst h_p0
  refine Exists.intro 24 ?_
  refine br_f (by decide +kernel) ?_
  refine And.intro (vp_in_iff.mpr (by decide +kernel)) ?_
  refine br_t (by decide +kernel) ?_
  exact ek_v (P := fun r => post r (1, 1, 1, (-1), (-1), 0, 0, (ux_l [0, 0, 0, 0]), (ux_l [0, (-1), (-1)]), (ux_l [1]), (ux_l [1037, 39457, 48, 0]), (ux_l [2, 1]), (ux_l [1, 3]), (ux_l [0, 0, 0, 0, 0, 0]), (ux_l [0, 1]), (ux_l [0, 0]), (ux_l [3]), (ux_l [1]), (ux_l [0, 0]), (fun _ => 0), (fun _ => 0), (fun _ => 0), (fun _ => 0), (fun _ => 0), (fun _ => 0), (fun _ => 0), (fun _ => 0), (fun _ => 0), (fun _ => 0), (ux_l [(-1), (-1), (-1), (-1), (-1)]), (fun _ => 0), (ux_l [3]), (ux_l [1037]), (ux_l [x, 0, 0, 0]), (ux_l [0]), (ux_l [0, 0, 0, 0]), (fun _ => 0), (fun _ => 0))) rfl hp
theorem ux_wordAt_11 {x : Int32} (h14 : 14 < x) {post : Int32 → St2 → Prop} {p0 : Int32} {p1 : Int32} (h_p0 : p0 = 1) (h_p1 : p1 = 1) (hp : post 39457 (1, 1, 1, (-1), (-1), 0, 0, (ux_l [0, 0, 0, 0]), (ux_l [0, (-1), (-1)]), (ux_l [1]), (ux_l [1037, 39457, 48, 0]), (ux_l [2, 1]), (ux_l [1, 3]), (ux_l [0, 0, 0, 0, 0, 0]), (ux_l [0, 1]), (ux_l [0, 0]), (ux_l [3]), (ux_l [1]), (ux_l [0, 0]), (fun _ => 0), (fun _ => 0), (fun _ => 0), (fun _ => 0), (fun _ => 0), (fun _ => 0), (fun _ => 0), (fun _ => 0), (fun _ => 0), (fun _ => 0), (ux_l [(-1), (-1), (-1), (-1), (-1)]), (fun _ => 0), (ux_l [3]), (ux_l [1037]), (ux_l [x, 0, 0, 0]), (ux_l [0]), (ux_l [0, 0, 0, 0]), (fun _ => 0), (fun _ => 0))) : wpX_wordAt post (1, 1, 1, (-1), (-1), 0, 0, (ux_l [0, 0, 0, 0]), (ux_l [0, (-1), (-1)]), (ux_l [1]), (ux_l [1037, 39457, 48, 0]), (ux_l [2, 1]), (ux_l [1, 3]), (ux_l [0, 0, 0, 0, 0, 0]), (ux_l [0, 1]), (ux_l [0, 0]), (ux_l [3]), (ux_l [1]), (ux_l [0, 0]), (fun _ => 0), (fun _ => 0), (fun _ => 0), (fun _ => 0), (fun _ => 0), (fun _ => 0), (fun _ => 0), (fun _ => 0), (fun _ => 0), (fun _ => 0), (ux_l [(-1), (-1), (-1), (-1), (-1)]), (fun _ => 0), (ux_l [3]), (ux_l [1037]), (ux_l [x, 0, 0, 0]), (ux_l [0]), (ux_l [0, 0, 0, 0]), (fun _ => 0), (fun _ => 0)) p0 p1 := by
  subst h_p0
  subst h_p1
  refine And.intro (by decide +kernel) ?_
  refine And.intro (vp_in_iff.mpr (by decide +kernel)) ?_
  refine nm_r (e' := 0) (by decide +kernel) ?_
  refine br_f (by decide +kernel) ?_
  refine ux_slotFor_2_11 h14 (by decide +kernel) ?_
  refine And.intro (by decide +kernel) ?_
  refine And.intro (vp_in_iff.mpr (by decide +kernel)) ?_
  exact ek_v (P := fun r => post r (1, 1, 1, (-1), (-1), 0, 0, (ux_l [0, 0, 0, 0]), (ux_l [0, (-1), (-1)]), (ux_l [1]), (ux_l [1037, 39457, 48, 0]), (ux_l [2, 1]), (ux_l [1, 3]), (ux_l [0, 0, 0, 0, 0, 0]), (ux_l [0, 1]), (ux_l [0, 0]), (ux_l [3]), (ux_l [1]), (ux_l [0, 0]), (fun _ => 0), (fun _ => 0), (fun _ => 0), (fun _ => 0), (fun _ => 0), (fun _ => 0), (fun _ => 0), (fun _ => 0), (fun _ => 0), (fun _ => 0), (ux_l [(-1), (-1), (-1), (-1), (-1)]), (fun _ => 0), (ux_l [3]), (ux_l [1037]), (ux_l [x, 0, 0, 0]), (ux_l [0]), (ux_l [0, 0, 0, 0]), (fun _ => 0), (fun _ => 0))) rfl hp
theorem ux_slotFor_2_12 {x : Int32} (h14 : 14 < x) {post : Int32 → St2 → Prop} {p0 : Int32} (h_p0 : p0 = 0) (hp : post 0 (1, 1, 1, (-1), (-1), 0, 0, (ux_l [0, 0, 0, 0]), (ux_l [0, (-1), (-1)]), (ux_l [1]), (ux_l [1037, 39457, 48, 0]), (ux_l [2, 1]), (ux_l [1, 3]), (ux_l [0, 0, 0, 0, 0, 0]), (ux_l [0, 1]), (ux_l [0, 0]), (ux_l [3]), (ux_l [1]), (ux_l [0, 0]), (fun _ => 0), (fun _ => 0), (fun _ => 0), (fun _ => 0), (fun _ => 0), (fun _ => 0), (fun _ => 0), (fun _ => 0), (fun _ => 0), (fun _ => 0), (ux_l [(-1), (-1), (-1), (-1), (-1)]), (fun _ => 0), (ux_l [3]), (ux_l [1037, 39457]), (ux_l [x, 0, 0, 0]), (ux_l [0]), (ux_l [0, 0, 0, 0]), (fun _ => 0), (fun _ => 0))) : wpX_slotFor_2 post (1, 1, 1, (-1), (-1), 0, 0, (ux_l [0, 0, 0, 0]), (ux_l [0, (-1), (-1)]), (ux_l [1]), (ux_l [1037, 39457, 48, 0]), (ux_l [2, 1]), (ux_l [1, 3]), (ux_l [0, 0, 0, 0, 0, 0]), (ux_l [0, 1]), (ux_l [0, 0]), (ux_l [3]), (ux_l [1]), (ux_l [0, 0]), (fun _ => 0), (fun _ => 0), (fun _ => 0), (fun _ => 0), (fun _ => 0), (fun _ => 0), (fun _ => 0), (fun _ => 0), (fun _ => 0), (fun _ => 0), (ux_l [(-1), (-1), (-1), (-1), (-1)]), (fun _ => 0), (ux_l [3]), (ux_l [1037, 39457]), (ux_l [x, 0, 0, 0]), (ux_l [0]), (ux_l [0, 0, 0, 0]), (fun _ => 0), (fun _ => 0)) p0 := by
  subst h_p0
  refine Exists.intro 24 ?_
  refine br_f (by decide +kernel) ?_
  refine And.intro (vp_in_iff.mpr (by decide +kernel)) ?_
  refine br_t (by decide +kernel) ?_
  exact ek_v (P := fun r => post r (1, 1, 1, (-1), (-1), 0, 0, (ux_l [0, 0, 0, 0]), (ux_l [0, (-1), (-1)]), (ux_l [1]), (ux_l [1037, 39457, 48, 0]), (ux_l [2, 1]), (ux_l [1, 3]), (ux_l [0, 0, 0, 0, 0, 0]), (ux_l [0, 1]), (ux_l [0, 0]), (ux_l [3]), (ux_l [1]), (ux_l [0, 0]), (fun _ => 0), (fun _ => 0), (fun _ => 0), (fun _ => 0), (fun _ => 0), (fun _ => 0), (fun _ => 0), (fun _ => 0), (fun _ => 0), (fun _ => 0), (ux_l [(-1), (-1), (-1), (-1), (-1)]), (fun _ => 0), (ux_l [3]), (ux_l [1037, 39457]), (ux_l [x, 0, 0, 0]), (ux_l [0]), (ux_l [0, 0, 0, 0]), (fun _ => 0), (fun _ => 0))) rfl hp
theorem ux_wordAt_12 {x : Int32} (h14 : 14 < x) {post : Int32 → St2 → Prop} {p0 : Int32} {p1 : Int32} (h_p0 : p0 = 1) (h_p1 : p1 = 2) (hp : post 48 (1, 1, 1, (-1), (-1), 0, 0, (ux_l [0, 0, 0, 0]), (ux_l [0, (-1), (-1)]), (ux_l [1]), (ux_l [1037, 39457, 48, 0]), (ux_l [2, 1]), (ux_l [1, 3]), (ux_l [0, 0, 0, 0, 0, 0]), (ux_l [0, 1]), (ux_l [0, 0]), (ux_l [3]), (ux_l [1]), (ux_l [0, 0]), (fun _ => 0), (fun _ => 0), (fun _ => 0), (fun _ => 0), (fun _ => 0), (fun _ => 0), (fun _ => 0), (fun _ => 0), (fun _ => 0), (fun _ => 0), (ux_l [(-1), (-1), (-1), (-1), (-1)]), (fun _ => 0), (ux_l [3]), (ux_l [1037, 39457]), (ux_l [x, 0, 0, 0]), (ux_l [0]), (ux_l [0, 0, 0, 0]), (fun _ => 0), (fun _ => 0))) : wpX_wordAt post (1, 1, 1, (-1), (-1), 0, 0, (ux_l [0, 0, 0, 0]), (ux_l [0, (-1), (-1)]), (ux_l [1]), (ux_l [1037, 39457, 48, 0]), (ux_l [2, 1]), (ux_l [1, 3]), (ux_l [0, 0, 0, 0, 0, 0]), (ux_l [0, 1]), (ux_l [0, 0]), (ux_l [3]), (ux_l [1]), (ux_l [0, 0]), (fun _ => 0), (fun _ => 0), (fun _ => 0), (fun _ => 0), (fun _ => 0), (fun _ => 0), (fun _ => 0), (fun _ => 0), (fun _ => 0), (fun _ => 0), (ux_l [(-1), (-1), (-1), (-1), (-1)]), (fun _ => 0), (ux_l [3]), (ux_l [1037, 39457]), (ux_l [x, 0, 0, 0]), (ux_l [0]), (ux_l [0, 0, 0, 0]), (fun _ => 0), (fun _ => 0)) p0 p1 := by
  subst h_p0
  subst h_p1
  refine And.intro (by decide +kernel) ?_
  refine And.intro (vp_in_iff.mpr (by decide +kernel)) ?_
  refine nm_r (e' := 0) (by decide +kernel) ?_
  refine br_f (by decide +kernel) ?_
  refine ux_slotFor_2_12 h14 (by decide +kernel) ?_
  refine And.intro (by decide +kernel) ?_
  refine And.intro (vp_in_iff.mpr (by decide +kernel)) ?_
  exact ek_v (P := fun r => post r (1, 1, 1, (-1), (-1), 0, 0, (ux_l [0, 0, 0, 0]), (ux_l [0, (-1), (-1)]), (ux_l [1]), (ux_l [1037, 39457, 48, 0]), (ux_l [2, 1]), (ux_l [1, 3]), (ux_l [0, 0, 0, 0, 0, 0]), (ux_l [0, 1]), (ux_l [0, 0]), (ux_l [3]), (ux_l [1]), (ux_l [0, 0]), (fun _ => 0), (fun _ => 0), (fun _ => 0), (fun _ => 0), (fun _ => 0), (fun _ => 0), (fun _ => 0), (fun _ => 0), (fun _ => 0), (fun _ => 0), (ux_l [(-1), (-1), (-1), (-1), (-1)]), (fun _ => 0), (ux_l [3]), (ux_l [1037, 39457]), (ux_l [x, 0, 0, 0]), (ux_l [0]), (ux_l [0, 0, 0, 0]), (fun _ => 0), (fun _ => 0))) rfl hp
theorem ux_loadProgram_4 {x : Int32} (h14 : 14 < x) {post : St2 → Prop} {p0 : Int32} {p1 : Int32} (h_p0 : p0 = 0) (h_p1 : p1 = 1) (hp : post (1, 1, 1, (-1), (-1), 0, 0, (ux_l [0, 0, 0, 0]), (ux_l [0, (-1), (-1)]), (ux_l [1]), (ux_l [1037, 39457, 48, 0]), (ux_l [2, 1]), (ux_l [1, 3]), (ux_l [0, 0, 0, 0, 0, 0]), (ux_l [0, 1]), (ux_l [0, 0]), (ux_l [3]), (ux_l [1]), (ux_l [0, 0]), (fun _ => 0), (fun _ => 0), (fun _ => 0), (fun _ => 0), (fun _ => 0), (fun _ => 0), (fun _ => 0), (fun _ => 0), (fun _ => 0), (fun _ => 0), (ux_l [(-1), (-1), (-1), (-1), (-1)]), (ux_l [0]), (ux_l [3]), (ux_l [1037, 39457, 48]), (ux_l [x, 0, 0, 0]), (ux_l [0]), (ux_l [0, 0, 0, 0]), (fun _ => 0), (fun _ => 0))) : wpX_loadProgram post (1, 1, 1, (-1), (-1), 0, 0, (ux_l [0, 0, 0, 0]), (ux_l [0, (-1), (-1)]), (ux_l [1]), (ux_l [1037, 39457, 48, 0]), (ux_l [2, 1]), (ux_l [1, 3]), (ux_l [0, 0, 0, 0, 0, 0]), (ux_l [0, 1]), (ux_l [0, 0]), (ux_l [3]), (ux_l [1]), (ux_l [0, 0]), (fun _ => 0), (fun _ => 0), (fun _ => 0), (fun _ => 0), (fun _ => 0), (fun _ => 0), (fun _ => 0), (fun _ => 0), (fun _ => 0), (fun _ => 0), (ux_l [(-1), (-1), (-1), (-1), (-1)]), (fun _ => 0), (fun _ => 0), (fun _ => 0), (ux_l [x, 0, 0, 0]), (ux_l [0]), (ux_l [0, 0, 0, 0]), (fun _ => 0), (fun _ => 0)) p0 p1 := by
  subst h_p0
  subst h_p1
  refine And.intro (vp_in_iff.mpr (by decide +kernel)) ?_
  refine And.intro (vp_in_iff.mpr (by decide +kernel)) ?_
  refine nm_r (ux_up0 (l' := [3]) (k' := 0) (v' := 3) (by decide +kernel) (by decide +kernel) rfl) ?_
  refine Exists.intro 24 ?_
  refine And.intro (vp_in_iff.mpr (by decide +kernel)) ?_
  refine br_f (by decide +kernel) ?_
  refine ux_wordAt_10 h14 (by decide +kernel) (by decide +kernel) ?_
  refine And.intro (vp_in_iff.mpr (by decide +kernel)) ?_
  refine nm_r (ux_up0 (l' := [1037]) (k' := 0) (v' := 1037) (by decide +kernel) (by decide +kernel) rfl) ?_
  refine nm_r (e' := 1) (by decide +kernel) ?_
  refine And.intro (vp_in_iff.mpr (by decide +kernel)) ?_
  refine br_f (by decide +kernel) ?_
  refine ux_wordAt_11 h14 (by decide +kernel) (by decide +kernel) ?_
  refine And.intro (vp_in_iff.mpr (by decide +kernel)) ?_
  refine nm_r (ux_up (l' := [1037, 39457]) (k' := 1) (v' := 39457) (by decide +kernel) (by decide +kernel) rfl) ?_
  refine nm_r (e' := 2) (by decide +kernel) ?_
  refine And.intro (vp_in_iff.mpr (by decide +kernel)) ?_
  refine br_f (by decide +kernel) ?_
  refine ux_wordAt_12 h14 (by decide +kernel) (by decide +kernel) ?_
  refine And.intro (vp_in_iff.mpr (by decide +kernel)) ?_
  refine nm_r (ux_up (l' := [1037, 39457, 48]) (k' := 2) (v' := 48) (by decide +kernel) (by decide +kernel) rfl) ?_
  refine nm_r (e' := 3) (by decide +kernel) ?_
  refine And.intro (vp_in_iff.mpr (by decide +kernel)) ?_
  refine br_t (by decide +kernel) ?_
  refine And.intro (vp_in_iff.mpr (by decide +kernel)) ?_
  refine nm_r (ux_up0 (l' := [0]) (k' := 0) (v' := 0) (by decide +kernel) (by decide +kernel) rfl) ?_
  exact hp
theorem ux_enqueue_7 {x : Int32} (h14 : 14 < x) {post : St2 → Prop} {p0 : Int32} (h_p0 : p0 = 0) (hp : post (1, 1, 1, 0, 0, 0, 0, (ux_l [0, 0, 0, 0]), (ux_l [0, (-1), (-1)]), (ux_l [1]), (ux_l [1037, 39457, 48, 0]), (ux_l [2, 1]), (ux_l [1, 3]), (ux_l [0, 0, 0, 0, 0, 0]), (ux_l [0, 1]), (ux_l [0, 0]), (ux_l [3]), (ux_l [1]), (ux_l [0, 0]), (fun _ => 0), (fun _ => 0), (fun _ => 0), (fun _ => 0), (fun _ => 0), (fun _ => 0), (fun _ => 0), (fun _ => 0), (fun _ => 0), (ux_l [1]), (ux_l [(-1), (-1), (-1), (-1), (-1)]), (ux_l [0]), (ux_l [3]), (ux_l [1037, 39457, 48]), (ux_l [x, 0, 0, 0]), (ux_l [0]), (ux_l [0, 0, 0, 0]), (ux_l [(-1)]), (fun _ => 0))) : wpX_enqueue post (1, 1, 1, (-1), (-1), 0, 0, (ux_l [0, 0, 0, 0]), (ux_l [0, (-1), (-1)]), (ux_l [1]), (ux_l [1037, 39457, 48, 0]), (ux_l [2, 1]), (ux_l [1, 3]), (ux_l [0, 0, 0, 0, 0, 0]), (ux_l [0, 1]), (ux_l [0, 0]), (ux_l [3]), (ux_l [1]), (ux_l [0, 0]), (fun _ => 0), (fun _ => 0), (fun _ => 0), (fun _ => 0), (fun _ => 0), (fun _ => 0), (fun _ => 0), (fun _ => 0), (fun _ => 0), (ux_l [1]), (ux_l [(-1), (-1), (-1), (-1), (-1)]), (ux_l [0]), (ux_l [3]), (ux_l [1037, 39457, 48]), (ux_l [x, 0, 0, 0]), (ux_l [0]), (ux_l [0, 0, 0, 0]), (fun _ => 0), (fun _ => 0)) p0 := by
  subst h_p0
  refine And.intro (vp_in_iff.mpr (by decide +kernel)) ?_
  refine nm_r (ux_up0 (l' := [(-1)]) (k' := 0) (v' := (-1)) (by decide +kernel) (by decide +kernel) rfl) ?_
  refine br_t (by decide +kernel) ?_
  exact hp
theorem ux_spawn_4 {x : Int32} (h14 : 14 < x) {post : Int32 → St2 → Prop} {p0 : Int32} (h_p0 : p0 = 3) (hp : post 0 (1, 1, 1, 0, 0, 0, 0, (ux_l [0, 0, 0, 0]), (ux_l [0, (-1), (-1)]), (ux_l [1]), (ux_l [1037, 39457, 48, 0]), (ux_l [2, 1]), (ux_l [1, 3]), (ux_l [0, 0, 0, 0, 0, 0]), (ux_l [0, 1]), (ux_l [0, 0]), (ux_l [3]), (ux_l [1]), (ux_l [0, 0]), (fun _ => 0), (fun _ => 0), (fun _ => 0), (fun _ => 0), (fun _ => 0), (fun _ => 0), (fun _ => 0), (fun _ => 0), (fun _ => 0), (ux_l [1]), (ux_l [(-1), (-1), (-1), (-1), (-1)]), (ux_l [0]), (ux_l [3]), (ux_l [1037, 39457, 48]), (ux_l [x, 0, 0, 0]), (ux_l [0]), (ux_l [0, 0, 0, 0]), (ux_l [(-1)]), (fun _ => 0))) : wpX_spawn post (1, 1, 1, (-1), (-1), 0, 0, (ux_l [0, 0, 0, 0]), (ux_l [0, (-1), (-1)]), (ux_l [1]), (ux_l [1037, 39457, 48, 0]), (ux_l [2, 1]), (ux_l [1, 3]), (ux_l [0, 0, 0, 0, 0, 0]), (ux_l [0, 1]), (ux_l [0, 0]), (ux_l [3]), (ux_l [1]), (ux_l [0, 0]), (fun _ => 0), (fun _ => 0), (fun _ => 0), (fun _ => 0), (fun _ => 0), (fun _ => 0), (fun _ => 0), (fun _ => 0), (fun _ => 0), (fun _ => 0), (ux_l [(-1), (-1), (-1), (-1), (-1)]), (fun _ => 0), (fun _ => 0), (fun _ => 0), (fun _ => 0), (fun _ => 0), (fun _ => 0), (fun _ => 0), (fun _ => 0)) p0 x := by
  subst h_p0
  refine Exists.intro 24 ?_
  refine br_f (by decide +kernel) ?_
  refine And.intro (vp_in_iff.mpr (by decide +kernel)) ?_
  refine br_t (by decide +kernel) ?_
  refine br_f (by decide +kernel) ?_
  refine br_f (by decide +kernel) ?_
  refine br_f (by decide +kernel) ?_
  refine nm_r (e' := 0) (by decide +kernel) ?_
  refine Exists.intro 24 ?_
  refine And.intro (vp_in_iff.mpr (by decide +kernel)) ?_
  refine br_f (by decide +kernel) ?_
  refine And.intro (vp_in_iff.mpr (by decide +kernel)) ?_
  refine br_t (by decide +kernel) ?_
  refine br_t (by decide +kernel) ?_
  refine And.intro (vp_in_iff.mpr (by decide +kernel)) ?_
  refine br_f (by decide +kernel) ?_
  refine br_f (by decide +kernel) ?_
  refine And.intro (vp_in_iff.mpr (by decide +kernel)) ?_
  refine br_t (by decide +kernel) ?_
  refine And.intro (vp_in_iff.mpr (by decide +kernel)) ?_
  refine nm_r (ux_up (l' := [(-1), (-1), (-1), (-1), (-1)]) (k' := 0) (v' := (-1)) (by decide +kernel) (by decide +kernel) rfl) ?_
  refine And.intro (vp_in_iff.mpr (by decide +kernel)) ?_
  refine nm_r (ux_up0 (l' := [0]) (k' := 0) (v' := 0) (by decide +kernel) (by decide +kernel) rfl) ?_
  refine nm_r (e' := 0) (by decide +kernel) ?_
  refine Exists.intro 24 ?_
  refine br_f (by decide +kernel) ?_
  refine And.intro (vp_in_iff.mpr (by decide +kernel)) ?_
  refine nm_r (ux_up0 (l' := [0]) (k' := 0) (v' := 0) (by decide +kernel) (by decide +kernel) rfl) ?_
  refine And.intro (vp_in_iff.mpr (by decide +kernel)) ?_
  refine nm_r (ux_up0 (l' := [0]) (k' := 0) (v' := 0) (by decide +kernel) (by decide +kernel) rfl) ?_
  refine nm_r (e' := 1) (by decide +kernel) ?_
  refine br_f (by decide +kernel) ?_
  refine And.intro (vp_in_iff.mpr (by decide +kernel)) ?_
  refine nm_r (ux_up (l' := [0, 0]) (k' := 1) (v' := 0) (by decide +kernel) (by decide +kernel) rfl) ?_
  refine And.intro (vp_in_iff.mpr (by decide +kernel)) ?_
  refine nm_r (ux_up (l' := [0, 0]) (k' := 1) (v' := 0) (by decide +kernel) (by decide +kernel) rfl) ?_
  refine nm_r (e' := 2) (by decide +kernel) ?_
  refine br_f (by decide +kernel) ?_
  refine And.intro (vp_in_iff.mpr (by decide +kernel)) ?_
  refine nm_r (ux_up (l' := [0, 0, 0]) (k' := 2) (v' := 0) (by decide +kernel) (by decide +kernel) rfl) ?_
  refine And.intro (vp_in_iff.mpr (by decide +kernel)) ?_
  refine nm_r (ux_up (l' := [0, 0, 0]) (k' := 2) (v' := 0) (by decide +kernel) (by decide +kernel) rfl) ?_
  refine nm_r (e' := 3) (by decide +kernel) ?_
  refine br_f (by decide +kernel) ?_
  refine And.intro (vp_in_iff.mpr (by decide +kernel)) ?_
  refine nm_r (ux_up (l' := [0, 0, 0, 0]) (k' := 3) (v' := 0) (by decide +kernel) (by decide +kernel) rfl) ?_
  refine And.intro (vp_in_iff.mpr (by decide +kernel)) ?_
  refine nm_r (ux_up (l' := [0, 0, 0, 0]) (k' := 3) (v' := 0) (by decide +kernel) (by decide +kernel) rfl) ?_
  refine nm_r (e' := 4) (by decide +kernel) ?_
  refine br_t (by decide +kernel) ?_
  refine And.intro (vp_in_iff.mpr (by decide +kernel)) ?_
  refine nm_r (ux_up (l' := [x, 0, 0, 0]) (k' := 0) (v' := x) (by decide +kernel) rfl rfl) ?_
  refine ux_loadProgram_4 h14 (by decide +kernel) (by decide +kernel) ?_
  refine And.intro (vp_in_iff.mpr (by decide +kernel)) ?_
  refine nm_r (ux_up0 (l' := [1]) (k' := 0) (v' := 1) (by decide +kernel) (by decide +kernel) rfl) ?_
  refine ux_enqueue_7 h14 (by decide +kernel) ?_
  exact ek_v (P := fun r => post r (1, 1, 1, 0, 0, 0, 0, (ux_l [0, 0, 0, 0]), (ux_l [0, (-1), (-1)]), (ux_l [1]), (ux_l [1037, 39457, 48, 0]), (ux_l [2, 1]), (ux_l [1, 3]), (ux_l [0, 0, 0, 0, 0, 0]), (ux_l [0, 1]), (ux_l [0, 0]), (ux_l [3]), (ux_l [1]), (ux_l [0, 0]), (fun _ => 0), (fun _ => 0), (fun _ => 0), (fun _ => 0), (fun _ => 0), (fun _ => 0), (fun _ => 0), (fun _ => 0), (fun _ => 0), (ux_l [1]), (ux_l [(-1), (-1), (-1), (-1), (-1)]), (ux_l [0]), (ux_l [3]), (ux_l [1037, 39457, 48]), (ux_l [x, 0, 0, 0]), (ux_l [0]), (ux_l [0, 0, 0, 0]), (ux_l [(-1)]), (fun _ => 0))) rfl hp
theorem ux_dequeue_4 {x : Int32} (h14 : 14 < x) {post : Int32 → St2 → Prop} (hp : post 0 (1, 1, 1, (-1), (-1), 0, 0, (ux_l [0, 0, 0, 0]), (ux_l [0, (-1), (-1)]), (ux_l [1]), (ux_l [1037, 39457, 48, 0]), (ux_l [2, 1]), (ux_l [1, 3]), (ux_l [0, 0, 0, 0, 0, 0]), (ux_l [0, 1]), (ux_l [0, 0]), (ux_l [3]), (ux_l [1]), (ux_l [0, 0]), (fun _ => 0), (fun _ => 0), (fun _ => 0), (fun _ => 0), (fun _ => 0), (fun _ => 0), (fun _ => 0), (fun _ => 0), (fun _ => 0), (ux_l [1]), (ux_l [(-1), (-1), (-1), (-1), (-1)]), (ux_l [0]), (ux_l [3]), (ux_l [1037, 39457, 48]), (ux_l [x, 0, 0, 0]), (ux_l [0]), (ux_l [0, 0, 0, 0]), (ux_l [(-1)]), (fun _ => 0))) : wpX_dequeue post (1, 1, 1, 0, 0, 0, 0, (ux_l [0, 0, 0, 0]), (ux_l [0, (-1), (-1)]), (ux_l [1]), (ux_l [1037, 39457, 48, 0]), (ux_l [2, 1]), (ux_l [1, 3]), (ux_l [0, 0, 0, 0, 0, 0]), (ux_l [0, 1]), (ux_l [0, 0]), (ux_l [3]), (ux_l [1]), (ux_l [0, 0]), (fun _ => 0), (fun _ => 0), (fun _ => 0), (fun _ => 0), (fun _ => 0), (fun _ => 0), (fun _ => 0), (fun _ => 0), (fun _ => 0), (ux_l [1]), (ux_l [(-1), (-1), (-1), (-1), (-1)]), (ux_l [0]), (ux_l [3]), (ux_l [1037, 39457, 48]), (ux_l [x, 0, 0, 0]), (ux_l [0]), (ux_l [0, 0, 0, 0]), (ux_l [(-1)]), (fun _ => 0)) := by
  refine br_t (by decide +kernel) ?_
  refine And.intro (vp_in_iff.mpr (by decide +kernel)) ?_
  refine nm_r (e' := (-1)) (by decide +kernel) ?_
  refine br_f (by decide +kernel) ?_
  exact ek_v (P := fun r => post r (1, 1, 1, (-1), (-1), 0, 0, (ux_l [0, 0, 0, 0]), (ux_l [0, (-1), (-1)]), (ux_l [1]), (ux_l [1037, 39457, 48, 0]), (ux_l [2, 1]), (ux_l [1, 3]), (ux_l [0, 0, 0, 0, 0, 0]), (ux_l [0, 1]), (ux_l [0, 0]), (ux_l [3]), (ux_l [1]), (ux_l [0, 0]), (fun _ => 0), (fun _ => 0), (fun _ => 0), (fun _ => 0), (fun _ => 0), (fun _ => 0), (fun _ => 0), (fun _ => 0), (fun _ => 0), (ux_l [1]), (ux_l [(-1), (-1), (-1), (-1), (-1)]), (ux_l [0]), (ux_l [3]), (ux_l [1037, 39457, 48]), (ux_l [x, 0, 0, 0]), (ux_l [0]), (ux_l [0, 0, 0, 0]), (ux_l [(-1)]), (fun _ => 0))) rfl hp
theorem ux_enterNew_4 {x : Int32} (h14 : 14 < x) {post : Int32 → St2 → Prop} {p0 : Int32} {p2 : Int32} (h_p0 : p0 = 0) (h_p2 : p2 = 1) (hp : post (-1) (1, 1, 1, (-1), (-1), 1, 0, (ux_l [0, 0, 0, 0]), (ux_l [0, (-1), (-1)]), (ux_l [1]), (ux_l [1037, 39457, 48, 0]), (ux_l [2, 1]), (ux_l [1, 3]), (ux_l [0, 0, 0, 0, 0, 0]), (ux_l [0, 1]), (ux_l [0, 0]), (ux_l [3]), (ux_l [1]), (ux_l [0, 0]), (fun _ => 0), (fun _ => 0), (fun _ => 0), (fun _ => 0), (fun _ => 0), (fun _ => 0), (fun _ => 0), (fun _ => 0), (fun _ => 0), (ux_l [1]), (ux_l [(-1), (-1), (-1), (-1), (-1)]), (ux_l [1]), (ux_l [3]), (ux_l [1037, 39457, 48]), (ux_l [x, 0, 0, 0]), (ux_l [0]), (ux_l [0, 0, 0, 0]), (ux_l [(-1)]), (fun _ => 0))) : wpX_enterNew post (1, 1, 1, (-1), (-1), 1, 0, (ux_l [0, 0, 0, 0]), (ux_l [0, (-1), (-1)]), (ux_l [1]), (ux_l [1037, 39457, 48, 0]), (ux_l [2, 1]), (ux_l [1, 3]), (ux_l [0, 0, 0, 0, 0, 0]), (ux_l [0, 1]), (ux_l [0, 0]), (ux_l [3]), (ux_l [1]), (ux_l [0, 0]), (fun _ => 0), (fun _ => 0), (fun _ => 0), (fun _ => 0), (fun _ => 0), (fun _ => 0), (fun _ => 0), (fun _ => 0), (fun _ => 0), (ux_l [1]), (ux_l [(-1), (-1), (-1), (-1), (-1)]), (ux_l [1]), (ux_l [3]), (ux_l [1037, 39457, 48]), (ux_l [x, 0, 0, 0]), (ux_l [0]), (ux_l [0, 0, 0, 0]), (ux_l [(-1)]), (fun _ => 0)) p0 x p2 := by
  subst h_p0
  subst h_p2
  refine Exists.intro 24 ?_
  refine br_f (by decide +kernel) ?_
  refine And.intro (vp_in_iff.mpr (by decide +kernel)) ?_
  refine br_f (by decide +kernel) ?_
  refine nm_r (e' := 2) (by decide +kernel) ?_
  refine br_f (by decide +kernel) ?_
  refine And.intro (vp_in_iff.mpr (by decide +kernel)) ?_
  refine br_t (by decide +kernel) ?_
  refine br_f (by decide +kernel) ?_
  refine br_f (ux_b0 h14) ?_
  refine br_t (ux_b15 h14) ?_
  refine br_t (by decide +kernel) ?_
  exact hp
theorem ux_open_4 {x : Int32} (h14 : 14 < x) {post : Int32 → St2 → Prop} {p0 : Int32} {p1 : Int32} {p3 : Int32} (h_p0 : p0 = 0) (h_p1 : p1 = 0) (h_p3 : p3 = 2) (hp : post 0 (1, 1, 1, (-1), (-1), 1, 0, (ux_l [0, 0, 0, 0]), (ux_l [0, (-1), (-1)]), (ux_l [1]), (ux_l [1037, 39457, 48, 0]), (ux_l [2, 1]), (ux_l [1, 3]), (ux_l [0, 0, 0, 0, 0, 0]), (ux_l [0, 1]), (ux_l [0, 0]), (ux_l [3]), (ux_l [1]), (ux_l [0, 0]), (fun _ => 0), (fun _ => 0), (fun _ => 0), (fun _ => 0), (fun _ => 0), (fun _ => 0), (fun _ => 0), (fun _ => 0), (fun _ => 0), (ux_l [1]), (ux_l [(-1), (-1), (-1), (-1), (-1)]), (ux_l [1]), (ux_l [3]), (ux_l [1037, 39457, 48]), (ux_l [x, 0, 0, 0]), (ux_l [0]), (ux_l [0, 0, 0, 0]), (ux_l [(-1)]), (fun _ => 0))) : wpX_open post (1, 1, 1, (-1), (-1), 1, 0, (ux_l [0, 0, 0, 0]), (ux_l [0, (-1), (-1)]), (ux_l [1]), (ux_l [1037, 39457, 48, 0]), (ux_l [2, 1]), (ux_l [1, 3]), (ux_l [0, 0, 0, 0, 0, 0]), (ux_l [0, 1]), (ux_l [0, 0]), (ux_l [3]), (ux_l [1]), (ux_l [0, 0]), (fun _ => 0), (fun _ => 0), (fun _ => 0), (fun _ => 0), (fun _ => 0), (fun _ => 0), (fun _ => 0), (fun _ => 0), (fun _ => 0), (ux_l [1]), (ux_l [(-1), (-1), (-1), (-1), (-1)]), (ux_l [1]), (ux_l [3]), (ux_l [1037, 39457, 48]), (ux_l [x, 0, 0, 0]), (ux_l [0]), (ux_l [0, 0, 0, 0]), (ux_l [(-1)]), (fun _ => 0)) p0 p1 x p3 := by
  subst h_p0
  subst h_p1
  subst h_p3
  refine Exists.intro 24 ?_
  refine br_f (by decide +kernel) ?_
  refine And.intro (vp_in_iff.mpr (by decide +kernel)) ?_
  refine br_t (by decide +kernel) ?_
  refine Exists.intro 24 ?_
  refine br_f (by decide +kernel) ?_
  refine And.intro (vp_in_iff.mpr (by decide +kernel)) ?_
  refine br_t (by decide +kernel) ?_
  refine br_f (by decide +kernel) ?_
  refine br_t (by decide +kernel) ?_
  refine br_f (ux_b0 h14) ?_
  refine br_t (ux_b15 h14) ?_
  refine br_t (by decide +kernel) ?_
  refine br_t (by decide +kernel) ?_
  refine br_f (by decide +kernel) ?_
  refine br_t (by decide +kernel) ?_
  refine And.intro (vp_in_iff.mpr (by decide +kernel)) ?_
  refine nm_r (e' := 0) (by decide +kernel) ?_
  refine Exists.intro 24 ?_
  refine And.intro (vp_in_iff.mpr (by decide +kernel)) ?_
  refine br_f (by decide +kernel) ?_
  refine And.intro (vp_in_iff.mpr (by decide +kernel)) ?_
  refine br_f (fun z => ux_b3 h14 z.symm) ?_
  refine nm_r (e' := 1) (by decide +kernel) ?_
  refine And.intro (vp_in_iff.mpr (by decide +kernel)) ?_
  refine br_t (by decide +kernel) ?_
  refine br_f (by decide +kernel) ?_
  refine br_f (by decide +kernel) ?_
  refine And.intro (vp_in_iff.mpr (by decide +kernel)) ?_
  refine ux_enterNew_4 h14 (by decide +kernel) (by decide +kernel) ?_
  refine br_f (by decide +kernel) ?_
  exact hp
theorem ux_callKernel_4 {x : Int32} (h14 : 14 < x) {post : St2 → Prop} {p0 : Int32} {p1 : Int32} {p2 : Int32} {p3 : Int32} {p4 : Int32} (h_p0 : p0 = 0) (h_p1 : p1 = 13) (h_p2 : p2 = 0) (h_p3 : p3 = 0) (h_p4 : p4 = 2) (hp : post (1, 1, 1, (-1), (-1), 1, 0, (ux_l [0, 0, 0, 0]), (ux_l [0, (-1), (-1)]), (ux_l [1]), (ux_l [1037, 39457, 48, 0]), (ux_l [2, 1]), (ux_l [1, 3]), (ux_l [0, 0, 0, 0, 0, 0]), (ux_l [0, 1]), (ux_l [0, 0]), (ux_l [3]), (ux_l [1]), (ux_l [0, 0]), (fun _ => 0), (fun _ => 0), (fun _ => 0), (fun _ => 0), (fun _ => 0), (fun _ => 0), (fun _ => 0), (fun _ => 0), (fun _ => 0), (ux_l [1]), (ux_l [(-1), (-1), (-1), (-1), (-1)]), (ux_l [1]), (ux_l [3]), (ux_l [1037, 39457, 48]), (ux_l [x, 0, 0, (-1)]), (ux_l [0]), (ux_l [0, 0, 0, 0]), (ux_l [(-1)]), (fun _ => 0))) : wpX_callKernel post (1, 1, 1, (-1), (-1), 1, 0, (ux_l [0, 0, 0, 0]), (ux_l [0, (-1), (-1)]), (ux_l [1]), (ux_l [1037, 39457, 48, 0]), (ux_l [2, 1]), (ux_l [1, 3]), (ux_l [0, 0, 0, 0, 0, 0]), (ux_l [0, 1]), (ux_l [0, 0]), (ux_l [3]), (ux_l [1]), (ux_l [0, 0]), (fun _ => 0), (fun _ => 0), (fun _ => 0), (fun _ => 0), (fun _ => 0), (fun _ => 0), (fun _ => 0), (fun _ => 0), (fun _ => 0), (ux_l [1]), (ux_l [(-1), (-1), (-1), (-1), (-1)]), (ux_l [1]), (ux_l [3]), (ux_l [1037, 39457, 48]), (ux_l [x, 0, 0, 0]), (ux_l [0]), (ux_l [0, 0, 0, 0]), (ux_l [(-1)]), (fun _ => 0)) p0 p1 p2 p3 p4 := by
  subst h_p0
  subst h_p1
  subst h_p2
  subst h_p3
  subst h_p4
  refine And.intro (vp_in_iff.mpr (by decide +kernel)) ?_
  refine nm_r (e' := x) rfl ?_
  refine And.intro (vp_in_iff.mpr (by decide +kernel)) ?_
  refine nm_r (e' := x) rfl ?_
  refine br_f (by decide +kernel) ?_
  refine br_t (by decide +kernel) ?_
  refine ux_open_4 h14 (by decide +kernel) (by decide +kernel) (by decide +kernel) ?_
  refine br_f (by decide +kernel) ?_
  refine br_t (by decide +kernel) ?_
  refine br_t (by decide +kernel) ?_
  refine And.intro (vp_in_iff.mpr (by decide +kernel)) ?_
  refine nm_r (ux_up (l' := [x, 0, 0, (-1)]) (k' := 3) (v' := (-1)) (by decide +kernel) (by decide +kernel) rfl) ?_
  exact hp
theorem ux_execute_10 {x : Int32} (h14 : 14 < x) {post : St2 → Prop} {p0 : Int32} {p1 : Int32} (h_p0 : p0 = 0) (h_p1 : p1 = 1037) (hp : post (1, 1, 1, (-1), (-1), 1, 0, (ux_l [0, 0, 0, 0]), (ux_l [0, (-1), (-1)]), (ux_l [1]), (ux_l [1037, 39457, 48, 0]), (ux_l [2, 1]), (ux_l [1, 3]), (ux_l [0, 0, 0, 0, 0, 0]), (ux_l [0, 1]), (ux_l [0, 0]), (ux_l [3]), (ux_l [1]), (ux_l [0, 0]), (fun _ => 0), (fun _ => 0), (fun _ => 0), (fun _ => 0), (fun _ => 0), (fun _ => 0), (fun _ => 0), (fun _ => 0), (fun _ => 0), (ux_l [1]), (ux_l [(-1), (-1), (-1), (-1), (-1)]), (ux_l [1]), (ux_l [3]), (ux_l [1037, 39457, 48]), (ux_l [x, 0, 0, (-1)]), (ux_l [0]), (ux_l [0, 0, 0, 0]), (ux_l [(-1)]), (fun _ => 0))) : wpX_execute post (1, 1, 1, (-1), (-1), 1, 0, (ux_l [0, 0, 0, 0]), (ux_l [0, (-1), (-1)]), (ux_l [1]), (ux_l [1037, 39457, 48, 0]), (ux_l [2, 1]), (ux_l [1, 3]), (ux_l [0, 0, 0, 0, 0, 0]), (ux_l [0, 1]), (ux_l [0, 0]), (ux_l [3]), (ux_l [1]), (ux_l [0, 0]), (fun _ => 0), (fun _ => 0), (fun _ => 0), (fun _ => 0), (fun _ => 0), (fun _ => 0), (fun _ => 0), (fun _ => 0), (fun _ => 0), (ux_l [1]), (ux_l [(-1), (-1), (-1), (-1), (-1)]), (ux_l [0]), (ux_l [3]), (ux_l [1037, 39457, 48]), (ux_l [x, 0, 0, 0]), (ux_l [0]), (ux_l [0, 0, 0, 0]), (ux_l [(-1)]), (fun _ => 0)) p0 p1 := by
  subst h_p0
  subst h_p1
  refine nm_r (e' := 13) (by decide +kernel) ?_
  refine nm_r (e' := 0) (by decide +kernel) ?_
  refine nm_r (e' := 0) (by decide +kernel) ?_
  refine nm_r (e' := 2) (by decide +kernel) ?_
  refine And.intro (vp_in_iff.mpr (by decide +kernel)) ?_
  refine nm_r (e' := x) rfl ?_
  refine And.intro (vp_in_iff.mpr (by decide +kernel)) ?_
  refine nm_r (e' := x) rfl ?_
  refine And.intro (vp_in_iff.mpr (by decide +kernel)) ?_
  refine And.intro (vp_in_iff.mpr (by decide +kernel)) ?_
  refine nm_r (ux_up (l' := [1]) (k' := 0) (v' := 1) (by decide +kernel) (by decide +kernel) rfl) ?_
  refine br_f (by decide +kernel) ?_
  refine br_t (by decide +kernel) ?_
  refine br_t (by decide +kernel) ?_
  refine br_f (by decide +kernel) ?_
  refine br_f (by decide +kernel) ?_
  refine br_f (by decide +kernel) ?_
  refine br_f (by decide +kernel) ?_
  refine br_f (by decide +kernel) ?_
  refine br_f (by decide +kernel) ?_
  refine br_f (by decide +kernel) ?_
  refine br_f (by decide +kernel) ?_
  refine br_f (by decide +kernel) ?_
  refine br_f (by decide +kernel) ?_
  refine ux_callKernel_4 h14 (by decide +kernel) (by decide +kernel) (by decide +kernel) (by decide +kernel) (by decide +kernel) ?_
  exact hp
theorem ux_execute_11 {x : Int32} (h14 : 14 < x) {post : St2 → Prop} {p0 : Int32} {p1 : Int32} (h_p0 : p0 = 0) (h_p1 : p1 = 39457) (hp : post (1, 1, 1, (-1), (-1), 2, 0, (ux_l [0, 0, 0, 0]), (ux_l [0, (-1), (-1)]), (ux_l [1]), (ux_l [1037, 39457, 48, 0]), (ux_l [2, 1]), (ux_l [1, 3]), (ux_l [0, 0, 0, 0, 0, 0]), (ux_l [0, 1]), (ux_l [0, 0]), (ux_l [3]), (ux_l [1]), (ux_l [0, 0]), (fun _ => 0), (fun _ => 0), (fun _ => 0), (fun _ => 0), (fun _ => 0), (fun _ => 0), (fun _ => 0), (fun _ => 0), (fun _ => 0), (ux_l [1]), (ux_l [(-1), (-1), (-1), (-1), (-1)]), (ux_l [2]), (ux_l [3]), (ux_l [1037, 39457, 48]), (ux_l [x, 77, 0, (-1)]), (ux_l [0]), (ux_l [0, 0, 0, 0]), (ux_l [(-1)]), (fun _ => 0))) : wpX_execute post (1, 1, 1, (-1), (-1), 2, 0, (ux_l [0, 0, 0, 0]), (ux_l [0, (-1), (-1)]), (ux_l [1]), (ux_l [1037, 39457, 48, 0]), (ux_l [2, 1]), (ux_l [1, 3]), (ux_l [0, 0, 0, 0, 0, 0]), (ux_l [0, 1]), (ux_l [0, 0]), (ux_l [3]), (ux_l [1]), (ux_l [0, 0]), (fun _ => 0), (fun _ => 0), (fun _ => 0), (fun _ => 0), (fun _ => 0), (fun _ => 0), (fun _ => 0), (fun _ => 0), (fun _ => 0), (ux_l [1]), (ux_l [(-1), (-1), (-1), (-1), (-1)]), (ux_l [1]), (ux_l [3]), (ux_l [1037, 39457, 48]), (ux_l [x, 0, 0, (-1)]), (ux_l [0]), (ux_l [0, 0, 0, 0]), (ux_l [(-1)]), (fun _ => 0)) p0 p1 := by
  subst h_p0
  subst h_p1
  refine nm_r (e' := 1) (by decide +kernel) ?_
  refine nm_r (e' := 1) (by decide +kernel) ?_
  refine nm_r (e' := 0) (by decide +kernel) ?_
  refine nm_r (e' := 77) (by decide +kernel) ?_
  refine And.intro (vp_in_iff.mpr (by decide +kernel)) ?_
  refine nm_r (e' := 0) rfl ?_
  refine And.intro (vp_in_iff.mpr (by decide +kernel)) ?_
  refine nm_r (e' := x) rfl ?_
  refine And.intro (vp_in_iff.mpr (by decide +kernel)) ?_
  refine And.intro (vp_in_iff.mpr (by decide +kernel)) ?_
  refine nm_r (ux_up (l' := [2]) (k' := 0) (v' := 2) (by decide +kernel) (by decide +kernel) rfl) ?_
  refine br_f (by decide +kernel) ?_
  refine br_f (by decide +kernel) ?_
  refine br_t (by decide +kernel) ?_
  refine And.intro (vp_in_iff.mpr (by decide +kernel)) ?_
  refine nm_r (ux_up (l' := [x, 77, 0, (-1)]) (k' := 1) (v' := 77) (by decide +kernel) (by decide +kernel) rfl) ?_
  exact hp
theorem ux_write_4 {x : Int32} (h14 : 14 < x) {post : St2 → Prop} {p0 : Int32} {p1 : Int32} (h_p0 : p0 = 0) (h_p1 : p1 = 77) (hp : post (1, 1, 1, (-1), (-1), 3, 0, (ux_l [0, 0, 0, 0]), (ux_l [0, (-1), (-1)]), (ux_l [1]), (ux_l [1037, 39457, 48, 0]), (ux_l [2, 1]), (ux_l [1, 3]), (ux_l [0, 0, 0, 0, 0, 0]), (ux_l [0, 1]), (ux_l [0, 0]), (ux_l [3]), (ux_l [1]), (ux_l [0, 0]), (fun _ => 0), (fun _ => 0), (fun _ => 0), (fun _ => 0), (fun _ => 0), (fun _ => 0), (fun _ => 0), (fun _ => 0), (fun _ => 0), (ux_l [1]), (ux_l [(-1), (-1), (-1), (-1), (-1)]), (ux_l [3]), (ux_l [3]), (ux_l [1037, 39457, 48]), (ux_l [x, 77, 0, (-1)]), (ux_l [0]), (ux_l [0, 0, 0, 0]), (ux_l [(-1)]), (fun _ => 0))) : wpX_write post (1, 1, 1, (-1), (-1), 3, 0, (ux_l [0, 0, 0, 0]), (ux_l [0, (-1), (-1)]), (ux_l [1]), (ux_l [1037, 39457, 48, 0]), (ux_l [2, 1]), (ux_l [1, 3]), (ux_l [0, 0, 0, 0, 0, 0]), (ux_l [0, 1]), (ux_l [0, 0]), (ux_l [3]), (ux_l [1]), (ux_l [0, 0]), (fun _ => 0), (fun _ => 0), (fun _ => 0), (fun _ => 0), (fun _ => 0), (fun _ => 0), (fun _ => 0), (fun _ => 0), (fun _ => 0), (ux_l [1]), (ux_l [(-1), (-1), (-1), (-1), (-1)]), (ux_l [3]), (ux_l [3]), (ux_l [1037, 39457, 48]), (ux_l [x, 77, 0, (-1)]), (ux_l [0]), (ux_l [0, 0, 0, 0]), (ux_l [(-1)]), (fun _ => 0)) p0 p1 x := by
  subst h_p0
  subst h_p1
  refine br_f (ux_b0 h14) ?_
  refine br_f (ux_b33 h14) ?_
  refine br_t (by decide +kernel) ?_
  refine br_t (by decide +kernel) ?_
  refine br_t (by decide +kernel) ?_
  refine br_t (by decide +kernel) ?_
  refine And.intro (vp_in_iff.mpr (by decide +kernel)) ?_
  refine nm_r (ux_up (l' := [x, 77, 0, (-1)]) (k' := 3) (v' := (-1)) (by decide +kernel) (by decide +kernel) rfl) ?_
  exact hp
theorem ux_execute_12 {x : Int32} (h14 : 14 < x) {post : St2 → Prop} {p0 : Int32} {p1 : Int32} (h_p0 : p0 = 0) (h_p1 : p1 = 48) (hp : post (1, 1, 1, (-1), (-1), 3, 0, (ux_l [0, 0, 0, 0]), (ux_l [0, (-1), (-1)]), (ux_l [1]), (ux_l [1037, 39457, 48, 0]), (ux_l [2, 1]), (ux_l [1, 3]), (ux_l [0, 0, 0, 0, 0, 0]), (ux_l [0, 1]), (ux_l [0, 0]), (ux_l [3]), (ux_l [1]), (ux_l [0, 0]), (fun _ => 0), (fun _ => 0), (fun _ => 0), (fun _ => 0), (fun _ => 0), (fun _ => 0), (fun _ => 0), (fun _ => 0), (fun _ => 0), (ux_l [1]), (ux_l [(-1), (-1), (-1), (-1), (-1)]), (ux_l [3]), (ux_l [3]), (ux_l [1037, 39457, 48]), (ux_l [x, 77, 0, (-1)]), (ux_l [0]), (ux_l [0, 0, 0, 0]), (ux_l [(-1)]), (fun _ => 0))) : wpX_execute post (1, 1, 1, (-1), (-1), 3, 0, (ux_l [0, 0, 0, 0]), (ux_l [0, (-1), (-1)]), (ux_l [1]), (ux_l [1037, 39457, 48, 0]), (ux_l [2, 1]), (ux_l [1, 3]), (ux_l [0, 0, 0, 0, 0, 0]), (ux_l [0, 1]), (ux_l [0, 0]), (ux_l [3]), (ux_l [1]), (ux_l [0, 0]), (fun _ => 0), (fun _ => 0), (fun _ => 0), (fun _ => 0), (fun _ => 0), (fun _ => 0), (fun _ => 0), (fun _ => 0), (fun _ => 0), (ux_l [1]), (ux_l [(-1), (-1), (-1), (-1), (-1)]), (ux_l [2]), (ux_l [3]), (ux_l [1037, 39457, 48]), (ux_l [x, 77, 0, (-1)]), (ux_l [0]), (ux_l [0, 0, 0, 0]), (ux_l [(-1)]), (fun _ => 0)) p0 p1 := by
  subst h_p0
  subst h_p1
  refine nm_r (e' := 16) (by decide +kernel) ?_
  refine nm_r (e' := 1) (by decide +kernel) ?_
  refine nm_r (e' := 0) (by decide +kernel) ?_
  refine nm_r (e' := 0) (by decide +kernel) ?_
  refine And.intro (vp_in_iff.mpr (by decide +kernel)) ?_
  refine nm_r (e' := 77) rfl ?_
  refine And.intro (vp_in_iff.mpr (by decide +kernel)) ?_
  refine nm_r (e' := x) rfl ?_
  refine And.intro (vp_in_iff.mpr (by decide +kernel)) ?_
  refine And.intro (vp_in_iff.mpr (by decide +kernel)) ?_
  refine nm_r (ux_up (l' := [3]) (k' := 0) (v' := 3) (by decide +kernel) (by decide +kernel) rfl) ?_
  refine br_f (by decide +kernel) ?_
  refine br_t (by decide +kernel) ?_
  refine br_t (by decide +kernel) ?_
  refine br_f (by decide +kernel) ?_
  refine br_f (by decide +kernel) ?_
  refine br_f (by decide +kernel) ?_
  refine br_t (by decide +kernel) ?_
  refine ux_write_4 h14 (by decide +kernel) (by decide +kernel) ?_
  exact hp
theorem ux_work_4 {x : Int32} (h14 : 14 < x) {post : St2 → Prop} {p0 : Int32} (h_p0 : p0 = 0) (hp : post (1, 1, 1, (-1), (-1), 3, 0, (ux_l [0, 0, 0, 0]), (ux_l [0, (-1), (-1)]), (ux_l [1]), (ux_l [1037, 39457, 48, 0]), (ux_l [2, 1]), (ux_l [1, 3]), (ux_l [0, 0, 0, 0, 0, 0]), (ux_l [0, 1]), (ux_l [0, 0]), (ux_l [3]), (ux_l [1]), (ux_l [0, 0]), (fun _ => 0), (fun _ => 0), (fun _ => 0), (fun _ => 0), (fun _ => 0), (fun _ => 0), (fun _ => 0), (fun _ => 0), (fun _ => 0), (ux_l [1]), (ux_l [(-1), (-1), (-1), (-1), (-1)]), (ux_l [3]), (ux_l [3]), (ux_l [1037, 39457, 48]), (ux_l [x, 77, 0, (-1)]), (ux_l [0]), (ux_l [0, 0, 0, 0]), (ux_l [(-1)]), (fun _ => 0))) : wpX_work post (1, 1, 1, (-1), (-1), 0, 0, (ux_l [0, 0, 0, 0]), (ux_l [0, (-1), (-1)]), (ux_l [1]), (ux_l [1037, 39457, 48, 0]), (ux_l [2, 1]), (ux_l [1, 3]), (ux_l [0, 0, 0, 0, 0, 0]), (ux_l [0, 1]), (ux_l [0, 0]), (ux_l [3]), (ux_l [1]), (ux_l [0, 0]), (fun _ => 0), (fun _ => 0), (fun _ => 0), (fun _ => 0), (fun _ => 0), (fun _ => 0), (fun _ => 0), (fun _ => 0), (fun _ => 0), (ux_l [1]), (ux_l [(-1), (-1), (-1), (-1), (-1)]), (ux_l [0]), (ux_l [3]), (ux_l [1037, 39457, 48]), (ux_l [x, 0, 0, 0]), (ux_l [0]), (ux_l [0, 0, 0, 0]), (ux_l [(-1)]), (fun _ => 0)) p0 := by
  subst h_p0
  refine Exists.intro 24 ?_
  refine br_f (by decide +kernel) ?_
  refine br_f (by decide +kernel) ?_
  refine And.intro (vp_in_iff.mpr (by decide +kernel)) ?_
  refine nm_r (e' := 0) (by decide +kernel) ?_
  refine br_f (by decide +kernel) ?_
  refine And.intro (vp_in_iff.mpr (by decide +kernel)) ?_
  refine br_t (by decide +kernel) ?_
  refine And.intro (vp_in_iff.mpr (by decide +kernel)) ?_
  refine And.intro (vp_in_iff.mpr (by decide +kernel)) ?_
  refine nm_r (e' := 1037) (by decide +kernel) ?_
  refine nm_r (e' := 13) (by decide +kernel) ?_
  refine br_f (by decide +kernel) ?_
  refine br_f (by decide +kernel) ?_
  refine br_f (by decide +kernel) ?_
  refine br_t (by decide +kernel) ?_
  refine nm_r (e' := 1) (by decide +kernel) ?_
  refine And.intro (vp_in_iff.mpr (by decide +kernel)) ?_
  refine nm_r (e' := 1037) (by decide +kernel) ?_
  refine ux_execute_10 h14 (by decide +kernel) (by decide +kernel) ?_
  refine And.intro (vp_in_iff.mpr (by decide +kernel)) ?_
  refine br_t (by decide +kernel) ?_
  refine br_f (by decide +kernel) ?_
  refine nm_r (e' := 1) (by decide +kernel) ?_
  refine br_f (by decide +kernel) ?_
  refine br_f (by decide +kernel) ?_
  refine And.intro (vp_in_iff.mpr (by decide +kernel)) ?_
  refine nm_r (e' := 1) (by decide +kernel) ?_
  refine br_f (by decide +kernel) ?_
  refine And.intro (vp_in_iff.mpr (by decide +kernel)) ?_
  refine br_t (by decide +kernel) ?_
  refine And.intro (vp_in_iff.mpr (by decide +kernel)) ?_
  refine And.intro (vp_in_iff.mpr (by decide +kernel)) ?_
  refine nm_r (e' := 39457) (by decide +kernel) ?_
  refine nm_r (e' := 1) (by decide +kernel) ?_
  refine br_f (by decide +kernel) ?_
  refine br_f (by decide +kernel) ?_
  refine br_f (by decide +kernel) ?_
  refine br_t (by decide +kernel) ?_
  refine nm_r (e' := 2) (by decide +kernel) ?_
  refine And.intro (vp_in_iff.mpr (by decide +kernel)) ?_
  refine nm_r (e' := 39457) (by decide +kernel) ?_
  refine ux_execute_11 h14 (by decide +kernel) (by decide +kernel) ?_
  refine And.intro (vp_in_iff.mpr (by decide +kernel)) ?_
  refine br_t (by decide +kernel) ?_
  refine br_f (by decide +kernel) ?_
  refine nm_r (e' := 2) (by decide +kernel) ?_
  refine br_f (by decide +kernel) ?_
  refine br_f (by decide +kernel) ?_
  refine And.intro (vp_in_iff.mpr (by decide +kernel)) ?_
  refine nm_r (e' := 2) (by decide +kernel) ?_
  refine br_f (by decide +kernel) ?_
  refine And.intro (vp_in_iff.mpr (by decide +kernel)) ?_
  refine br_t (by decide +kernel) ?_
  refine And.intro (vp_in_iff.mpr (by decide +kernel)) ?_
  refine And.intro (vp_in_iff.mpr (by decide +kernel)) ?_
  refine nm_r (e' := 48) (by decide +kernel) ?_
  refine nm_r (e' := 16) (by decide +kernel) ?_
  refine br_f (by decide +kernel) ?_
  refine br_f (by decide +kernel) ?_
  refine br_t (by decide +kernel) ?_
  refine And.intro (vp_in_iff.mpr (by decide +kernel)) ?_
  refine br_f (ux_b0 h14) ?_
  refine br_f (ux_b33 h14) ?_
  refine br_t (by decide +kernel) ?_
  refine br_t (by decide +kernel) ?_
  refine nm_r (e' := 3) (by decide +kernel) ?_
  refine And.intro (vp_in_iff.mpr (by decide +kernel)) ?_
  refine nm_r (e' := 48) (by decide +kernel) ?_
  refine ux_execute_12 h14 (by decide +kernel) (by decide +kernel) ?_
  refine And.intro (vp_in_iff.mpr (by decide +kernel)) ?_
  refine br_t (by decide +kernel) ?_
  refine br_f (by decide +kernel) ?_
  refine nm_r (e' := 3) (by decide +kernel) ?_
  refine br_t (by decide +kernel) ?_
  exact hp
theorem ux_enqueue_8 {x : Int32} (h14 : 14 < x) {post : St2 → Prop} {p0 : Int32} (h_p0 : p0 = 0) (hp : post (1, 1, 1, 0, 0, 3, 0, (ux_l [0, 0, 0, 0]), (ux_l [0, (-1), (-1)]), (ux_l [1]), (ux_l [1037, 39457, 48, 0]), (ux_l [2, 1]), (ux_l [1, 3]), (ux_l [0, 0, 0, 0, 0, 0]), (ux_l [0, 1]), (ux_l [0, 0]), (ux_l [3]), (ux_l [1]), (ux_l [0, 0]), (fun _ => 0), (fun _ => 0), (fun _ => 0), (fun _ => 0), (fun _ => 0), (fun _ => 0), (fun _ => 0), (fun _ => 0), (fun _ => 0), (ux_l [1]), (ux_l [(-1), (-1), (-1), (-1), (-1)]), (ux_l [3]), (ux_l [3]), (ux_l [1037, 39457, 48]), (ux_l [x, 77, 0, (-1)]), (ux_l [0]), (ux_l [0, 0, 0, 0]), (ux_l [(-1)]), (fun _ => 0))) : wpX_enqueue post (1, 1, 1, (-1), (-1), 3, 0, (ux_l [0, 0, 0, 0]), (ux_l [0, (-1), (-1)]), (ux_l [1]), (ux_l [1037, 39457, 48, 0]), (ux_l [2, 1]), (ux_l [1, 3]), (ux_l [0, 0, 0, 0, 0, 0]), (ux_l [0, 1]), (ux_l [0, 0]), (ux_l [3]), (ux_l [1]), (ux_l [0, 0]), (fun _ => 0), (fun _ => 0), (fun _ => 0), (fun _ => 0), (fun _ => 0), (fun _ => 0), (fun _ => 0), (fun _ => 0), (fun _ => 0), (ux_l [1]), (ux_l [(-1), (-1), (-1), (-1), (-1)]), (ux_l [3]), (ux_l [3]), (ux_l [1037, 39457, 48]), (ux_l [x, 77, 0, (-1)]), (ux_l [0]), (ux_l [0, 0, 0, 0]), (ux_l [(-1)]), (fun _ => 0)) p0 := by
  subst h_p0
  refine And.intro (vp_in_iff.mpr (by decide +kernel)) ?_
  refine nm_r (ux_up (l' := [(-1)]) (k' := 0) (v' := (-1)) (by decide +kernel) (by decide +kernel) rfl) ?_
  refine br_t (by decide +kernel) ?_
  exact hp
theorem ux_turn_4 {x : Int32} (h14 : 14 < x) {post : Int32 → St2 → Prop} (hp : post 1 (1, 1, 1, 0, 0, 3, 0, (ux_l [0, 0, 0, 0]), (ux_l [0, (-1), (-1)]), (ux_l [1]), (ux_l [1037, 39457, 48, 0]), (ux_l [2, 1]), (ux_l [1, 3]), (ux_l [0, 0, 0, 0, 0, 0]), (ux_l [0, 1]), (ux_l [0, 0]), (ux_l [3]), (ux_l [1]), (ux_l [0, 0]), (fun _ => 0), (fun _ => 0), (fun _ => 0), (fun _ => 0), (fun _ => 0), (fun _ => 0), (fun _ => 0), (fun _ => 0), (fun _ => 0), (ux_l [1]), (ux_l [(-1), (-1), (-1), (-1), (-1)]), (ux_l [3]), (ux_l [3]), (ux_l [1037, 39457, 48]), (ux_l [x, 77, 0, (-1)]), (ux_l [0]), (ux_l [0, 0, 0, 0]), (ux_l [(-1)]), (fun _ => 0))) : wpX_turn post (1, 1, 1, 0, 0, 0, 0, (ux_l [0, 0, 0, 0]), (ux_l [0, (-1), (-1)]), (ux_l [1]), (ux_l [1037, 39457, 48, 0]), (ux_l [2, 1]), (ux_l [1, 3]), (ux_l [0, 0, 0, 0, 0, 0]), (ux_l [0, 1]), (ux_l [0, 0]), (ux_l [3]), (ux_l [1]), (ux_l [0, 0]), (fun _ => 0), (fun _ => 0), (fun _ => 0), (fun _ => 0), (fun _ => 0), (fun _ => 0), (fun _ => 0), (fun _ => 0), (fun _ => 0), (ux_l [1]), (ux_l [(-1), (-1), (-1), (-1), (-1)]), (ux_l [0]), (ux_l [3]), (ux_l [1037, 39457, 48]), (ux_l [x, 0, 0, 0]), (ux_l [0]), (ux_l [0, 0, 0, 0]), (ux_l [(-1)]), (fun _ => 0)) := by
  refine Exists.intro 24 ?_
  refine br_f (by decide +kernel) ?_
  refine And.intro (vp_in_iff.mpr (by decide +kernel)) ?_
  refine br_f (by decide +kernel) ?_
  refine nm_r (e' := 1) (by decide +kernel) ?_
  refine br_f (by decide +kernel) ?_
  refine And.intro (vp_in_iff.mpr (by decide +kernel)) ?_
  refine br_f (by decide +kernel) ?_
  refine nm_r (e' := 2) (by decide +kernel) ?_
  refine br_f (by decide +kernel) ?_
  refine And.intro (vp_in_iff.mpr (by decide +kernel)) ?_
  refine br_f (by decide +kernel) ?_
  refine nm_r (e' := 3) (by decide +kernel) ?_
  refine br_f (by decide +kernel) ?_
  refine And.intro (vp_in_iff.mpr (by decide +kernel)) ?_
  refine br_f (by decide +kernel) ?_
  refine nm_r (e' := 4) (by decide +kernel) ?_
  refine br_f (by decide +kernel) ?_
  refine And.intro (vp_in_iff.mpr (by decide +kernel)) ?_
  refine br_f (by decide +kernel) ?_
  refine nm_r (e' := 5) (by decide +kernel) ?_
  refine br_t (by decide +kernel) ?_
  refine ux_dequeue_4 h14  ?_
  refine br_t (by decide +kernel) ?_
  refine ux_work_4 h14 (by decide +kernel) ?_
  refine And.intro (vp_in_iff.mpr (by decide +kernel)) ?_
  refine br_t (by decide +kernel) ?_
  refine ux_enqueue_8 h14 (by decide +kernel) ?_
  exact hp
theorem ux_run_4 {x : Int32} (h14 : 14 < x) {post : Int32 → St2 → Prop} {p0 : Int32} (h_p0 : p0 = 1) (hp : post 1 (1, 1, 1, 0, 0, 3, 0, (ux_l [0, 0, 0, 0]), (ux_l [0, (-1), (-1)]), (ux_l [1]), (ux_l [1037, 39457, 48, 0]), (ux_l [2, 1]), (ux_l [1, 3]), (ux_l [0, 0, 0, 0, 0, 0]), (ux_l [0, 1]), (ux_l [0, 0]), (ux_l [3]), (ux_l [1]), (ux_l [0, 0]), (fun _ => 0), (fun _ => 0), (fun _ => 0), (fun _ => 0), (fun _ => 0), (fun _ => 0), (fun _ => 0), (fun _ => 0), (fun _ => 0), (ux_l [1]), (ux_l [(-1), (-1), (-1), (-1), (-1)]), (ux_l [3]), (ux_l [3]), (ux_l [1037, 39457, 48]), (ux_l [x, 77, 0, (-1)]), (ux_l [0]), (ux_l [0, 0, 0, 0]), (ux_l [(-1)]), (fun _ => 0))) : wpX_run post (1, 1, 1, 0, 0, 0, 0, (ux_l [0, 0, 0, 0]), (ux_l [0, (-1), (-1)]), (ux_l [1]), (ux_l [1037, 39457, 48, 0]), (ux_l [2, 1]), (ux_l [1, 3]), (ux_l [0, 0, 0, 0, 0, 0]), (ux_l [0, 1]), (ux_l [0, 0]), (ux_l [3]), (ux_l [1]), (ux_l [0, 0]), (fun _ => 0), (fun _ => 0), (fun _ => 0), (fun _ => 0), (fun _ => 0), (fun _ => 0), (fun _ => 0), (fun _ => 0), (fun _ => 0), (ux_l [1]), (ux_l [(-1), (-1), (-1), (-1), (-1)]), (ux_l [0]), (ux_l [3]), (ux_l [1037, 39457, 48]), (ux_l [x, 0, 0, 0]), (ux_l [0]), (ux_l [0, 0, 0, 0]), (ux_l [(-1)]), (fun _ => 0)) p0 := by
  subst h_p0
  refine br_t (by decide +kernel) ?_
  refine br_t (by decide +kernel) ?_
  refine Exists.intro 24 ?_
  refine br_f (by decide +kernel) ?_
  refine br_f (by decide +kernel) ?_
  refine ux_turn_4 h14  ?_
  refine br_f (by decide +kernel) ?_
  refine nm_r (e' := 1) (by decide +kernel) ?_
  refine br_t (by decide +kernel) ?_
  exact ek_v (P := fun r => post r (1, 1, 1, 0, 0, 3, 0, (ux_l [0, 0, 0, 0]), (ux_l [0, (-1), (-1)]), (ux_l [1]), (ux_l [1037, 39457, 48, 0]), (ux_l [2, 1]), (ux_l [1, 3]), (ux_l [0, 0, 0, 0, 0, 0]), (ux_l [0, 1]), (ux_l [0, 0]), (ux_l [3]), (ux_l [1]), (ux_l [0, 0]), (fun _ => 0), (fun _ => 0), (fun _ => 0), (fun _ => 0), (fun _ => 0), (fun _ => 0), (fun _ => 0), (fun _ => 0), (fun _ => 0), (ux_l [1]), (ux_l [(-1), (-1), (-1), (-1), (-1)]), (ux_l [3]), (ux_l [3]), (ux_l [1037, 39457, 48]), (ux_l [x, 77, 0, (-1)]), (ux_l [0]), (ux_l [0, 0, 0, 0]), (ux_l [(-1)]), (fun _ => 0))) rfl hp
theorem ux_kind_4 {x : Int32} (h14 : 14 < x) {post : Int32 → Prop} {p0 : Int32} (h_p0 : p0 = 2) (hp : post 0) : wpX_kind post (1, 1, 1, 0, 0, 3, 0, (ux_l [0, 0, 0, 0]), (ux_l [0, (-1), (-1)]), (ux_l [1]), (ux_l [1037, 39457, 48, 0]), (ux_l [2, 1]), (ux_l [1, 3]), (ux_l [0, 0, 0, 0, 0, 0]), (ux_l [0, 1]), (ux_l [0, 0]), (ux_l [3]), (ux_l [1]), (ux_l [0, 0]), (fun _ => 0), (fun _ => 0), (fun _ => 0), (fun _ => 0), (fun _ => 0), (fun _ => 0), (fun _ => 0), (fun _ => 0), (fun _ => 0), (ux_l [1]), (ux_l [(-1), (-1), (-1), (-1), (-1)]), (ux_l [3]), (ux_l [3]), (ux_l [1037, 39457, 48]), (ux_l [x, 77, 0, (-1)]), (ux_l [0]), (ux_l [0, 0, 0, 0]), (ux_l [(-1)]), (fun _ => 0)) p0 := by
  subst h_p0
  refine br_f (by decide +kernel) ?_
  refine br_f (by decide +kernel) ?_
  refine br_f (by decide +kernel) ?_
  refine And.intro (vp_in_iff.mpr (by decide +kernel)) ?_
  exact ek_v (P := fun r => post r ) rfl hp
theorem ux_word_4 {x : Int32} (h14 : 14 < x) {post : Int32 → St2 → Prop} {p0 : Int32} {p1 : Int32} (h_p0 : p0 = 2) (h_p1 : p1 = 0) (hp : post 0 (1, 1, 1, 0, 0, 3, 0, (ux_l [0, 0, 0, 0]), (ux_l [0, (-1), (-1)]), (ux_l [1]), (ux_l [1037, 39457, 48, 0]), (ux_l [2, 1]), (ux_l [1, 3]), (ux_l [0, 0, 0, 0, 0, 0]), (ux_l [0, 1]), (ux_l [0, 0]), (ux_l [3]), (ux_l [1]), (ux_l [0, 0]), (fun _ => 0), (fun _ => 0), (fun _ => 0), (fun _ => 0), (fun _ => 0), (fun _ => 0), (fun _ => 0), (fun _ => 0), (fun _ => 0), (ux_l [1]), (ux_l [(-1), (-1), (-1), (-1), (-1)]), (ux_l [3]), (ux_l [3]), (ux_l [1037, 39457, 48]), (ux_l [x, 77, 0, (-1)]), (ux_l [0]), (ux_l [0, 0, 0, 0]), (ux_l [(-1)]), (fun _ => 0))) : wpX_word post (1, 1, 1, 0, 0, 3, 0, (ux_l [0, 0, 0, 0]), (ux_l [0, (-1), (-1)]), (ux_l [1]), (ux_l [1037, 39457, 48, 0]), (ux_l [2, 1]), (ux_l [1, 3]), (ux_l [0, 0, 0, 0, 0, 0]), (ux_l [0, 1]), (ux_l [0, 0]), (ux_l [3]), (ux_l [1]), (ux_l [0, 0]), (fun _ => 0), (fun _ => 0), (fun _ => 0), (fun _ => 0), (fun _ => 0), (fun _ => 0), (fun _ => 0), (fun _ => 0), (fun _ => 0), (ux_l [1]), (ux_l [(-1), (-1), (-1), (-1), (-1)]), (ux_l [3]), (ux_l [3]), (ux_l [1037, 39457, 48]), (ux_l [x, 77, 0, (-1)]), (ux_l [0]), (ux_l [0, 0, 0, 0]), (ux_l [(-1)]), (fun _ => 0)) p0 p1 := by
  subst h_p0
  subst h_p1
  refine br_f (by decide +kernel) ?_
  refine br_f (by decide +kernel) ?_
  refine br_f (by decide +kernel) ?_
  refine And.intro (vp_in_iff.mpr (by decide +kernel)) ?_
  refine br_f (by decide +kernel) ?_
  exact hp
theorem ux_descriptor_4 {x : Int32} (h14 : 14 < x) {post : Int32 → Prop} {p0 : Int32} {p1 : Int32} (h_p0 : p0 = 0) (h_p1 : p1 = 0) (hp : post 0) : wpX_descriptor post (1, 1, 1, 0, 0, 3, 0, (ux_l [0, 0, 0, 0]), (ux_l [0, (-1), (-1)]), (ux_l [1]), (ux_l [1037, 39457, 48, 0]), (ux_l [2, 1]), (ux_l [1, 3]), (ux_l [0, 0, 0, 0, 0, 0]), (ux_l [0, 1]), (ux_l [0, 0]), (ux_l [3]), (ux_l [1]), (ux_l [0, 0]), (fun _ => 0), (fun _ => 0), (fun _ => 0), (fun _ => 0), (fun _ => 0), (fun _ => 0), (fun _ => 0), (fun _ => 0), (fun _ => 0), (ux_l [1]), (ux_l [(-1), (-1), (-1), (-1), (-1)]), (ux_l [3]), (ux_l [3]), (ux_l [1037, 39457, 48]), (ux_l [x, 77, 0, (-1)]), (ux_l [0]), (ux_l [0, 0, 0, 0]), (ux_l [(-1)]), (fun _ => 0)) p0 p1 := by
  subst h_p0
  subst h_p1
  refine br_f (by decide +kernel) ?_
  refine br_f (by decide +kernel) ?_
  refine br_f (by decide +kernel) ?_
  refine And.intro (vp_in_iff.mpr (by decide +kernel)) ?_
  refine br_t (by decide +kernel) ?_
  refine br_f (by decide +kernel) ?_
  refine br_f (by decide +kernel) ?_
  refine br_t (by decide +kernel) ?_
  refine And.intro (vp_in_iff.mpr (by decide +kernel)) ?_
  refine nm_r (e' := 0) (by decide +kernel) ?_
  refine br_t (by decide +kernel) ?_
  exact hp
theorem ux_size_4 {x : Int32} (h14 : 14 < x) {post : Int32 → Prop} {p0 : Int32} (h_p0 : p0 = 1) (hp : post 3) : wpX_size post (1, 1, 1, 0, 0, 3, 0, (ux_l [0, 0, 0, 0]), (ux_l [0, (-1), (-1)]), (ux_l [1]), (ux_l [1037, 39457, 48, 0]), (ux_l [2, 1]), (ux_l [1, 3]), (ux_l [0, 0, 0, 0, 0, 0]), (ux_l [0, 1]), (ux_l [0, 0]), (ux_l [3]), (ux_l [1]), (ux_l [0, 0]), (fun _ => 0), (fun _ => 0), (fun _ => 0), (fun _ => 0), (fun _ => 0), (fun _ => 0), (fun _ => 0), (fun _ => 0), (fun _ => 0), (ux_l [1]), (ux_l [(-1), (-1), (-1), (-1), (-1)]), (ux_l [3]), (ux_l [3]), (ux_l [1037, 39457, 48]), (ux_l [x, 77, 0, (-1)]), (ux_l [0]), (ux_l [0, 0, 0, 0]), (ux_l [(-1)]), (fun _ => 0)) p0 := by
  subst h_p0
  refine br_f (by decide +kernel) ?_
  refine br_f (by decide +kernel) ?_
  refine br_f (by decide +kernel) ?_
  refine And.intro (vp_in_iff.mpr (by decide +kernel)) ?_
  refine br_f (by decide +kernel) ?_
  refine And.intro (vp_in_iff.mpr (by decide +kernel)) ?_
  exact ek_v (P := fun r => post r ) rfl hp
theorem ux_register_4 {x : Int32} (h14 : 14 < x) {post : Int32 → Prop} {p0 : Int32} {p1 : Int32} (h_p0 : p0 = 0) (h_p1 : p1 = 3) (hp : post (-1)) : wpX_register post (1, 1, 1, 0, 0, 3, 0, (ux_l [0, 0, 0, 0]), (ux_l [0, (-1), (-1)]), (ux_l [1]), (ux_l [1037, 39457, 48, 0]), (ux_l [2, 1]), (ux_l [1, 3]), (ux_l [0, 0, 0, 0, 0, 0]), (ux_l [0, 1]), (ux_l [0, 0]), (ux_l [3]), (ux_l [1]), (ux_l [0, 0]), (fun _ => 0), (fun _ => 0), (fun _ => 0), (fun _ => 0), (fun _ => 0), (fun _ => 0), (fun _ => 0), (fun _ => 0), (fun _ => 0), (ux_l [1]), (ux_l [(-1), (-1), (-1), (-1), (-1)]), (ux_l [3]), (ux_l [3]), (ux_l [1037, 39457, 48]), (ux_l [x, 77, 0, (-1)]), (ux_l [0]), (ux_l [0, 0, 0, 0]), (ux_l [(-1)]), (fun _ => 0)) p0 p1 := by
  subst h_p0
  subst h_p1
  refine br_f (by decide +kernel) ?_
  refine br_f (by decide +kernel) ?_
  refine br_f (by decide +kernel) ?_
  refine And.intro (vp_in_iff.mpr (by decide +kernel)) ?_
  refine br_t (by decide +kernel) ?_
  refine br_f (by decide +kernel) ?_
  refine br_f (by decide +kernel) ?_
  refine br_f (by decide +kernel) ?_
  refine And.intro (vp_in_iff.mpr (by decide +kernel)) ?_
  exact ek_v (P := fun r => post r ) rfl hp
theorem ux_big {x : Int32} (h14 : 14 < x) : wpL_lawOf (fun r _ => r = 1) 320 5120 () x := by
  refine br_f (ux_b0 h14) ?_
  refine br_t h14 ?_
  refine And.intro (by decide +kernel) ?_
  refine And.intro (by decide +kernel) ?_
  refine Exists.intro 31 ?_
  refine Exists.intro 680 ?_
  refine And.intro (by decide +kernel) ?_
  refine And.intro (by decide +kernel) ?_
  refine ux_init_1  ?_
  refine ux_file_1 (by decide +kernel) (by decide +kernel) (by decide +kernel) ?_
  refine br_t (by decide +kernel) ?_
  refine ux_file_2 (by decide +kernel) (by decide +kernel) (by decide +kernel) ?_
  refine br_t (by decide +kernel) ?_
  refine ux_file_3 (by decide +kernel) (by decide +kernel) (by decide +kernel) ?_
  refine br_t (by decide +kernel) ?_
  refine ux_spawn_4 h14 (by decide +kernel) ?_
  refine br_t (by decide +kernel) ?_
  refine ux_run_4 h14 (by decide +kernel) ?_
  refine br_t (by decide +kernel) ?_
  refine ux_kind_4 h14 (by decide +kernel) ?_
  refine br_t (by decide +kernel) ?_
  refine br_t (by decide +kernel) ?_
  refine ux_word_4 h14 (by decide +kernel) (by decide +kernel) ?_
  refine br_t (by decide +kernel) ?_
  refine br_t (by decide +kernel) ?_
  refine ux_descriptor_4 h14 (by decide +kernel) (by decide +kernel) ?_
  refine br_t (by decide +kernel) ?_
  refine br_f (ux_b3 h14) ?_
  refine br_t (by decide +kernel) ?_
  refine ux_size_4 h14 (by decide +kernel) ?_
  refine br_f (ux_b3 h14) ?_
  refine br_t (by decide +kernel) ?_
  refine ux_register_4 h14 (by decide +kernel) (by decide +kernel) ?_
  refine br_t (by decide +kernel) ?_
  refine br_f (ux_b3 h14) ?_
  refine br_t (by decide +kernel) ?_
  exact rfl
end
section
theorem ux_law (x : Int32) : wpL_lawOf (fun r _ => r = 1) 320 5120 () x := by
  by_cases h0 : x < 0
  · exact ux_neg h0
  · by_cases h14 : 14 < x
    · exact ux_big h14
    · by_cases h3 : x = 3
      · rw [h3]; exact ux_three
      · exact ux_fits h0 h14 h3
theorem i_vc (xs : Nat → Int32) (L : Nat) (hL : L ≤ 1) : wpL_law (fun r => r = 1) L xs := by
  have hl : L = 0 ∨ L = 1 := by omega
  unfold wpL_law wpL_cellAt
  rcases hl with h | h
  · subst h
    exact br_t (by decide) ⟨320, 5120, by decide, by decide, ux_law _⟩
  · subst h
    exact br_f (by decide) ⟨vp_in_iff.mpr (by decide), 320, 5120, by decide, by decide, ux_law _⟩
end
