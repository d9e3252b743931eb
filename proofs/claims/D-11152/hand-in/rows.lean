section
/-- a place in range, by its number -/
theorem qm_in {i : Int32} {n : Nat} {P : Prop} (h : 0 ≤ i.toInt ∧ i.toInt < n) (p : P) : vp_in i n ∧ P := ⟨vp_in_iff.mpr h, p⟩
/-- a char read back is a char -/
theorem qm_nar {x : Int32} {P : Prop} (h : x.toBitVec.toNat < 65536 ∧ x = nI x.toBitVec.toNat) (p : P) : narrow .char (.int x) = .int x ∧ P :=
  ⟨by rw [h.2]; exact (pk_charN h.1).1, p⟩
/-- the sign fed, the operation that it is, and what it makes of x and y -/
def qm_zw (z w v x y : Int32) : Prop :=
  (z = 43 ∧ w = 3 ∧ v = x + y) ∨ (z = 45 ∧ w = 4 ∧ v = x - y) ∨ (z = 42 ∧ w = 5 ∧ v = x * y) ∨ (z = 60 ∧ w = 6 ∧ y ≤ x ∧ v = 0) ∨ (z = 60 ∧ w = 6 ∧ ¬ y ≤ x ∧ v = 1) ∨ (z = 38 ∧ w = 7 ∧ v = x &&& y)
/-- the chars that the law feeds -/
def qm_good (c : Int32) : Prop := c = 104 ∨ c = 61 ∨ c = 98 ∨ c = 99 ∨ c = 59 ∨ c = 43 ∨ c = 45 ∨ c = 42 ∨ c = 60 ∨ c = 38
def qm_A1 (z : Int32) : Nat → Int32 := upd (upd (upd (upd (upd (upd (fun _ => 0) 0 104) 1 61) 2 98) 3 z) 4 99) 5 59
def qm_A2 (w : Int32) : Nat → Int32 := upd (upd (upd (fun _ => 0) 0 2) 1 2) 2 w
def qm_A3 : Nat → Int32 := upd (upd (upd (fun _ => 0) 0 1) 1 2) 2 0
def qm_A4 : Nat → Int32 := upd (upd (upd (fun _ => 0) 0 (-1)) 1 (-1)) 2 1
def qm_A5 : Nat → Int32 := upd (upd (upd (upd (upd (fun _ => 0) 0 0) 1 0) 2 0) 0 1) 1 1
def qm_A6 : Nat → Int32 := upd (upd (upd (fun _ => 0) 0 0) 1 1) 0 2
def qm_A7 (w : Int32) : Nat → Int32 := upd (fun _ => 0) 0 w
def qm_A9 (w : Int32) : Nat → Int32 := upd (upd (upd (upd (fun _ => 0) 0 2) 1 2) 2 w) 3 10
def qm_A10 : Nat → Int32 := upd (upd (upd (upd (fun _ => 0) 0 1) 1 2) 2 0) 3 7
def qm_A13 (x y : Int32) : Nat → Int32 := upd (upd (fun _ => 0) 1 x) 2 y
def qm_A11 (x y v : Int32) : Nat → Int32 := upd (upd (upd (fun _ => 0) 0 x) 1 y) 2 v
/-- one char is fed -/
theorem qm_feed {post : Int32 → St2 → Prop} {f0_size f0_at f0_wrong f0_deep f0_nodes f0_trees f0_waiting f0_inside f0_blocks f0_ready f0_length f0_head f0_tail f0_running f0_stored : Int32} {a1 a2 a3 a4 a5 a6 a7 a8 a9 a10 a11 a12 a13 : Nat → Int32} {c s' : Int32} {n : Nat} (hc : qm_good c) (hs : f0_size < 80) (hv : vp_in f0_size 80) (e1 : f0_size + 1 = s') (e2 : f0_size.toNatClampNeg = n) (hp : post s' (s', f0_at, f0_wrong, f0_deep, f0_nodes, f0_trees, f0_waiting, f0_inside, f0_blocks, f0_ready, f0_length, f0_head, f0_tail, f0_running, f0_stored, (upd a1 n c), a2, a3, a4, a5, a6, a7, a8, a9, a10, a11, a12, a13)) : wpX_feed post (f0_size, f0_at, f0_wrong, f0_deep, f0_nodes, f0_trees, f0_waiting, f0_inside, f0_blocks, f0_ready, f0_length, f0_head, f0_tail, f0_running, f0_stored, a1, a2, a3, a4, a5, a6, a7, a8, a9, a10, a11, a12, a13) c := by
  subst e1 e2
  rcases hc with rfl | rfl | rfl | rfl | rfl | rfl | rfl | rfl | rfl | rfl <;> (
    repeat (first
        | refine qm_in (by decide +kernel) ?_
        | refine qm_nar (by decide +kernel) ?_
        | refine br_t (by decide +kernel) ?_
        | refine br_f (by decide +kernel) ?_
        | refine nm_e ?_
        | refine Exists.intro (8 : Nat) ?_
        | refine br_t hs ?_
        | refine And.intro hv ?_)
    exact hp)
/-- one variable is set -/
theorem qm_set {post : Int32 → St2 → Prop} {f0_size f0_at f0_wrong f0_deep f0_nodes f0_trees f0_waiting f0_inside f0_blocks f0_ready f0_length f0_head f0_tail f0_running f0_stored : Int32} {a1 a2 a3 a4 a5 a6 a7 a8 a9 a10 a11 a12 a13 : Nat → Int32} {k v : Int32} {n : Nat} (h0 : ¬ k < 0) (h7 : k ≤ 7) (hk : vp_in k 8) (e2 : k.toNatClampNeg = n) (hp : post 0 (f0_size, f0_at, f0_wrong, f0_deep, f0_nodes, f0_trees, f0_waiting, f0_inside, f0_blocks, f0_ready, f0_length, f0_head, f0_tail, f0_running, f0_stored, a1, a2, a3, a4, a5, a6, a7, a8, a9, a10, a11, a12, (upd a13 n v))) : wpX_set post (f0_size, f0_at, f0_wrong, f0_deep, f0_nodes, f0_trees, f0_waiting, f0_inside, f0_blocks, f0_ready, f0_length, f0_head, f0_tail, f0_running, f0_stored, a1, a2, a3, a4, a5, a6, a7, a8, a9, a10, a11, a12, a13) k v := by
  subst e2
  exact br_f h0 (br_t h7 ⟨hk, nm_e hp⟩)
end
section
/-- what was fed compiles to four operations -/
theorem qm_comp {post : Int32 → St2 → Prop} {z w v x y : Int32} (h : qm_zw z w v x y) {a11 a12 a13 : Nat → Int32} (hp : post 0 (6, 6, 0, 0, 3, 1, 0, 0, 0, 1, 4, 0, 0, 0, 0, qm_A1 z, qm_A2 w, qm_A3, qm_A4, qm_A5, qm_A6, qm_A7 w, (fun _ => 0), qm_A9 w, qm_A10, a11, a12, a13)) : wpX_compile post (6, 0, 0, 0, 0, 0, 0, 0, 0, 0, 0, 0, 0, 0, 0, qm_A1 z, (fun _ => 0), (fun _ => 0), (fun _ => 0), (fun _ => 0), (fun _ => 0), (fun _ => 0), (fun _ => 0), (fun _ => 0), (fun _ => 0), a11, a12, a13) := by
  rcases h with ⟨rfl, rfl, rfl⟩ | ⟨rfl, rfl, rfl⟩ | ⟨rfl, rfl, rfl⟩ | ⟨rfl, rfl, hle, rfl⟩ | ⟨rfl, rfl, hle, rfl⟩ | ⟨rfl, rfl, rfl⟩ <;> (
    repeat (first
        | refine qm_in (by decide +kernel) ?_
        | refine qm_nar (by decide +kernel) ?_
        | refine br_t (by decide +kernel) ?_
        | refine br_f (by decide +kernel) ?_
        | refine nm_e ?_
        | refine Exists.intro (8 : Nat) ?_)
    exact hp)
end
section
/-- the four operations run -/
theorem qm_run {post : Int32 → St2 → Prop} {z w v x y : Int32} (h : qm_zw z w v x y) {a12 : Nat → Int32} (hp : post 1 (6, 6, 0, 0, 3, 1, 0, 0, 0, 1, 4, 3, 3, 0, 1, qm_A1 z, qm_A2 w, qm_A3, qm_A4, qm_A5, qm_A6, qm_A7 w, (fun _ => 0), qm_A9 w, qm_A10, qm_A11 x y v, a12, (upd (qm_A13 x y) 7 v))) : wpX_run post (6, 6, 0, 0, 3, 1, 0, 0, 0, 1, 4, 0, 0, 0, 0, qm_A1 z, qm_A2 w, qm_A3, qm_A4, qm_A5, qm_A6, qm_A7 w, (fun _ => 0), qm_A9 w, qm_A10, (fun _ => 0), a12, qm_A13 x y) := by
  rcases h with ⟨rfl, rfl, rfl⟩ | ⟨rfl, rfl, rfl⟩ | ⟨rfl, rfl, rfl⟩ | ⟨rfl, rfl, hle, rfl⟩ | ⟨rfl, rfl, hle, rfl⟩ | ⟨rfl, rfl, rfl⟩ <;> (
    repeat (first
        | refine qm_in (by decide +kernel) ?_
        | refine qm_nar (by decide +kernel) ?_
        | refine br_t (by decide +kernel) ?_
        | refine br_f (by decide +kernel) ?_
        | refine nm_e ?_
        | refine Exists.intro (8 : Nat) ?_
        | refine br_t (by exact hle) ?_
        | refine br_f (by exact hle) ?_)
    exact hp)
end
section
/-- what the law asks at its end -/
theorem qm_197 {post : Int32 → St0 → Prop} {mc ms kc ks : Nat} {x y v : Int32} {f0_at f0_wrong f0_deep f0_nodes f0_trees f0_waiting f0_inside f0_blocks f0_ready f0_length f0_head f0_tail f0_running f0_stored : Int32} {a1 a2 a3 a4 a5 a6 a7 a8 a9 a10 a11 a12 : Nat → Int32} (hp : post 1 ()) : wL_lawOf_197 post mc ms x y v kc ks 6 f0_at f0_wrong f0_deep f0_nodes f0_trees f0_waiting f0_inside f0_blocks f0_ready f0_length f0_head f0_tail f0_running f0_stored a1 a2 a3 a4 a5 a6 a7 a8 a9 a10 a11 a12 (upd (qm_A13 x y) 7 v) := by
  repeat (first
      | refine qm_in (by decide +kernel) ?_
      | refine qm_nar (by decide +kernel) ?_
      | refine br_t (by decide +kernel) ?_
      | refine br_f (by decide +kernel) ?_
      | refine nm_e ?_
      | refine Exists.intro (8 : Nat) ?_
      | refine br_t (by rfl) ?_)
  exact hp
/-- the law behind its making and its choice of a sign -/
theorem qm_61 {post : Int32 → St0 → Prop} {mc ms kc ks : Nat} {x y x4 z w v : Int32} (h : qm_zw z w v x y) (hz : qm_good z)
    (hb : ∀ K : Int32 → Prop, K v → ((x4 = 0 → K (x + y)) ∧ (¬ x4 = 0 → ((x4 = 1 → K (x - y)) ∧ (¬ x4 = 1 → ((x4 = 2 → K (x * y)) ∧ (¬ x4 = 2 → ((x4 = 3 → ((y ≤ x → K 0) ∧ (¬ y ≤ x → K 1))) ∧ (¬ x4 = 3 → K (x &&& y))))))))))
    (hp : post 1 ()) : wL_lawOf_61 post mc ms x y x4 z kc ks 0 0 0 0 0 0 0 0 0 0 0 0 0 0 0 (fun _ => 0) (fun _ => 0) (fun _ => 0) (fun _ => 0) (fun _ => 0) (fun _ => 0) (fun _ => 0) (fun _ => 0) (fun _ => 0) (fun _ => 0) (fun _ => 0) (fun _ => 0) (fun _ => 0) := by
  refine qm_set (n := 1) (by decide) (by decide) (vp_in_iff.mpr (by decide)) (by decide) ?_
  refine qm_set (n := 2) (by decide) (by decide) (vp_in_iff.mpr (by decide)) (by decide) ?_
  refine qm_feed (s' := 1) (n := 0) (by unfold qm_good; decide) (by decide) (vp_in_iff.mpr (by decide)) (by decide) (by decide) ?_
  refine qm_feed (s' := 2) (n := 1) (by unfold qm_good; decide) (by decide) (vp_in_iff.mpr (by decide)) (by decide) (by decide) ?_
  refine qm_feed (s' := 3) (n := 2) (by unfold qm_good; decide) (by decide) (vp_in_iff.mpr (by decide)) (by decide) (by decide) ?_
  refine qm_feed (s' := 4) (n := 3) hz (by decide) (vp_in_iff.mpr (by decide)) (by decide) (by decide) ?_
  refine qm_feed (s' := 5) (n := 4) (by unfold qm_good; decide) (by decide) (vp_in_iff.mpr (by decide)) (by decide) (by decide) ?_
  refine qm_feed (s' := 6) (n := 5) (by unfold qm_good; decide) (by decide) (vp_in_iff.mpr (by decide)) (by decide) (by decide) ?_
  refine br_t (by decide) ?_
  refine qm_comp h ?_
  refine br_t (by decide) ?_
  refine qm_run h ?_
  refine br_t (by decide) ?_
  exact hb (fun t => wL_lawOf_197 post mc ms x y t kc ks 6 6 0 0 3 1 0 0 0 1 4 3 3 0 1 (qm_A1 z) (qm_A2 w) qm_A3 qm_A4 qm_A5 qm_A6 (qm_A7 w) (fun _ => 0) (qm_A9 w) qm_A10 (qm_A11 x y v) (fun _ => 0) (upd (qm_A13 x y) 7 v)) (qm_197 hp)
end
section
theorem qm_lawOf {post : Int32 → St0 → Prop} (x y c : Int32) (hp : post 1 ()) : wpL_lawOf post 640 10224 () x y c := by
  refine ⟨by decide, by decide, 639, 10000, by decide, by decide, ?_⟩
  refine ⟨by decide, by decide, by decide, by decide, by decide, by decide, by decide, by decide, by decide, by decide, by decide, by decide, by decide, by decide, by decide, by decide, by decide, by decide, by decide, by decide, by decide, by decide, by decide, by decide, by decide, by decide, ?_⟩
  refine And.intro (by decide) ?_
  intro x4 _
  refine br_c (fun h0 => ?_) (fun h0 => br_c (fun h1 => ?_) (fun h1 => br_c (fun h2 => ?_) (fun h2 => br_c (fun h3 => ?_) (fun h3 => ?_))))
  · exact qm_61 (w := 3) (v := x + y) (Or.inl ⟨rfl, rfl, rfl⟩) (by unfold qm_good; decide) (fun K k => br_t h0 k) hp
  · exact qm_61 (w := 4) (v := x - y) (Or.inr (Or.inl ⟨rfl, rfl, rfl⟩)) (by unfold qm_good; decide) (fun K k => br_f h0 (br_t h1 k)) hp
  · exact qm_61 (w := 5) (v := x * y) (Or.inr (Or.inr (Or.inl ⟨rfl, rfl, rfl⟩))) (by unfold qm_good; decide) (fun K k => br_f h0 (br_f h1 (br_t h2 k))) hp
  · by_cases hle : y ≤ x
    · exact qm_61 (w := 6) (v := 0) (Or.inr (Or.inr (Or.inr (Or.inl ⟨rfl, rfl, hle, rfl⟩)))) (by unfold qm_good; decide) (fun K k => br_f h0 (br_f h1 (br_f h2 (br_t h3 (br_t hle k))))) hp
    · exact qm_61 (w := 6) (v := 1) (Or.inr (Or.inr (Or.inr (Or.inr (Or.inl ⟨rfl, rfl, hle, rfl⟩))))) (by unfold qm_good; decide) (fun K k => br_f h0 (br_f h1 (br_f h2 (br_t h3 (br_f hle k))))) hp
  · exact qm_61 (w := 7) (v := x &&& y) (Or.inr (Or.inr (Or.inr (Or.inr (Or.inr ⟨rfl, rfl, rfl⟩))))) (by unfold qm_good; decide) (fun K k => br_f h0 (br_f h1 (br_f h2 (br_f h3 k)))) hp
/-- a cell of the script, or 0 behind its end -/
theorem qm_cell {post : Int32 → Prop} {L : Nat} {xs : Nat → Int32} (hL : L ≤ 3) (k : Nat) (hk : k ≤ 2) (hp : ∀ r, post r) : wpL_cellAt post L xs () (nI k) :=
  pk_le L k (fun _ => hp _) (fun z => ⟨vp_in_nI z (by omega), hp _⟩)
theorem i_vc (xs : Nat → Int32) (L : Nat) (hL : L ≤ 3) : wpL_law (fun r => r = 1) L xs :=
  qm_cell hL 0 (by omega) (fun x => qm_cell hL 1 (by omega) (fun y => qm_cell hL 2 (by omega) (fun c => ⟨640, 10224, by decide, by decide, qm_lawOf x y c rfl⟩)))
end
