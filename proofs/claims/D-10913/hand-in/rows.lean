section
/-- one container: v < 64 is its only number, from 64 on: it holds none; how many it holds -/
def cs_n (v : Nat) : Nat := if v < 64 then 1 else 0
/-- one container as a word -/
def cs_w (v : Nat) : Int64 := if v < 64 then lN (2 ^ v) else 0
/-- container j of a set that holds q alone (1024: none) -/
def cs_P (q j : Nat) : Nat := if q / 64 = j then q % 64 else 64
/-- a picture with one container changed -/
def cs_up (p : Nat → Nat) (c v : Nat) : Nat → Nat := fun j => if j = c then v else p j
/-- the state: every container is a list of at most one number, as the picture p says -/
def cs_K (p : Nat → Nat) (a1 a2 a3 a4 : Nat → Int32) : Prop := ∀ c, c < 64 → a1 c = 0 ∧ a2 c = nI (cs_n (p c)) ∧ a3 c = nI (cs_n (p c)) ∧ (p c < 64 → a4 (c * 8) = nI (p c))
/-- set s of the picture holds q alone (1024: none) -/
def cs_S (p : Nat → Nat) (s q : Nat) : Prop := ∀ j, j < 16 → p (s * 16 + j) = cs_P q j
/-- what ones computes -/
def cs_ones (w : Int64) : Int32 :=
  let a := w - (((w.toUInt64 >>> ((1 : Int32).toInt64.toUInt64 &&& Int64.toUInt64 63)).toInt64) &&& 6148914691236517205)
  let b := (a &&& 3689348814741910323) + (((a.toUInt64 >>> ((2 : Int32).toInt64.toUInt64 &&& Int64.toUInt64 63)).toInt64) &&& 3689348814741910323)
  let c := (b + ((b.toUInt64 >>> ((4 : Int32).toInt64.toUInt64 &&& Int64.toUInt64 63)).toInt64)) &&& 1085102592571150095
  ((((c * 72340172838076673).toUInt64 >>> ((56 : Int32).toInt64.toUInt64 &&& Int64.toUInt64 63)).toInt64).toInt32)
theorem cs_n1 {v : Nat} (h : v < 64) : cs_n v = 1 := if_pos h
theorem cs_n0 {v : Nat} (h : ¬ v < 64) : cs_n v = 0 := if_neg h
theorem cs_w0 {v : Nat} (h : ¬ v < 64) : cs_w v = 0 := if_neg h
theorem cs_b1 : ∀ v, v < 65 → cs_ones (cs_w v) = nI (cs_n v) := by decide +kernel
theorem cs_b2 : ∀ v, v < 65 → cs_ones (cs_w v &&& ((cs_w v <<< ((1 : Int32).toInt64 &&& 63)) ^^^ (-1))) = nI (cs_n v) := by decide +kernel
theorem cs_b3 : ∀ v, v < 64 → cs_ones ((cs_w v &&& (-(cs_w v))) - 1) = nI v := by decide +kernel
theorem cs_b4 : ∀ v, v < 64 → (0 : Int64) ||| ((1 : Int64) <<< ((nI v).toInt64 &&& 63)) = cs_w v := by decide +kernel
theorem cs_b5 : ∀ v, v < 65 → ∀ r, r < 64 → cs_w v <<< ((nI r).toInt64 &&& 63) = cs_w (if v + r < 64 then v + r else 64) := by decide +kernel
theorem cs_b6 : ∀ v, v < 65 → ∀ r, r < 64 → 0 < r → (((cs_w v).toUInt64 >>> ((64 - nI r).toInt64.toUInt64 &&& Int64.toUInt64 63)).toInt64) = cs_w (if v < 64 ∧ 64 ≤ v + r then v + r - 64 else 64) := by decide +kernel
theorem cs_b7 : ∀ v, v < 65 → cs_w v ||| cs_w 64 = cs_w v ∧ cs_w 64 ||| cs_w v = cs_w v ∧ cs_w v ||| cs_w v = cs_w v ∧ cs_w v ^^^ cs_w v = cs_w 64 := by decide +kernel
theorem cs_n2 (v : Nat) : nI (cs_n v) ≤ 2 * nI (cs_n v) := by
  unfold cs_n
  split <;> decide
theorem cs_n8 (v : Nat) : ¬ 8 < nI (cs_n v) := by
  unfold cs_n
  split <;> decide
theorem cs_Pn (q j : Nat) : cs_n (cs_P q j) = if q / 64 = j then 1 else 0 := by
  unfold cs_n cs_P
  split
  · rw [if_pos (by omega)]
  · rfl
theorem cs_P65 (q j : Nat) : cs_P q j < 65 := by
  unfold cs_P
  split <;> omega
theorem cs_ix (c k : Nat) : nI c * 8 + nI k = nI (c * 8 + k) := by
  rw [show (8 : Int32) = nI 8 from rfl, pk_mul, nI_add]
theorem cs_sc (s j : Nat) : nI s * 16 + nI j = nI (s * 16 + j) := by
  rw [show (16 : Int32) = nI 16 from rfl, pk_mul, nI_add]
theorem cs_upS (p : Nat → Nat) (c v : Nat) : cs_up p c v c = v := if_pos rfl
theorem cs_upN (p : Nat → Nat) {c v j : Nat} (h : j ≠ c) : cs_up p c v j = p j := if_neg h
/-- one container written -/
theorem cs_Kup {p : Nat → Nat} {a1 a2 a3 a4 b1 b2 b3 b4 : Nat → Int32} {c v : Nat} (k : cs_K p a1 a2 a3 a4)
    (e1 : b1 c = 0) (e2 : b2 c = nI (cs_n v)) (e3 : b3 c = nI (cs_n v)) (e4 : v < 64 → b4 (c * 8) = nI v)
    (o1 : ∀ j, j ≠ c → b1 j = a1 j) (o2 : ∀ j, j ≠ c → b2 j = a2 j) (o3 : ∀ j, j ≠ c → b3 j = a3 j) (o4 : ∀ j, j ≠ c → b4 (j * 8) = a4 (j * 8)) :
    cs_K (cs_up p c v) b1 b2 b3 b4 := by
  intro j hj
  by_cases e : j = c
  · subst e
    rw [cs_upS]
    exact ⟨e1, e2, e3, e4⟩
  · rw [cs_upN p e, o1 j e, o2 j e, o3 j e, o4 j e]
    exact k j hj
/-- the moved word: u and v are the two containers that a shift by r reads, m what stands there then -/
theorem cs_mv {q q' i r u v : Nat} {B P : Int} (hq : q ≤ 1024) (hr : r < 64) (hi : i < 16) (hB : B = 64 * P + r)
    (hq' : (q < 1024 ∧ (q' : Int) = q + B ∧ q' < 1024) ∨ (q' = 1024 ∧ (q = 1024 ∨ (q : Int) + B < 0 ∨ 1024 ≤ (q : Int) + B)))
    (hu : (q < 1024 ∧ ((q / 64 : Nat) : Int) = i - P ∧ u = q % 64) ∨ (¬ (q < 1024 ∧ ((q / 64 : Nat) : Int) = i - P) ∧ u = 64))
    (hv : (q < 1024 ∧ ((q / 64 : Nat) : Int) + 1 = i - P ∧ v = q % 64) ∨ (¬ (q < 1024 ∧ ((q / 64 : Nat) : Int) + 1 = i - P) ∧ v = 64)) :
    (r = 0 → cs_P q' i = u) ∧ ((v < 64 ∧ 64 ≤ v + r ∧ ¬ u + r < 64 ∧ cs_P q' i = v + r - 64) ∨ (¬ (v < 64 ∧ 64 ≤ v + r) ∧ u + r < 64 ∧ cs_P q' i = u + r) ∨ (¬ (v < 64 ∧ 64 ≤ v + r) ∧ ¬ u + r < 64 ∧ cs_P q' i = 64)) := by
  unfold cs_P
  constructor
  · intro h0
    split <;> omega
  · split <;> omega
end
section
section
variable {f : Int32} {a1 a2 a3 a4 : Nat → Int32} {a5 a6 : Nat → Int64} {a7 : Nat → Int32} {p : Nat → Nat}
theorem cs_wOnes {post : Int32 → Prop} {u : St0} {w : Int64} (h : post (cs_ones w)) : wpX_ones post u w := by
  unfold wpX_ones
  intro x hx y hy z hz
  subst hx
  subst hy
  subst hz
  exact h
theorem cs_wOnesN {post : Int32 → Prop} {u : St0} {v : Nat} (hv : v < 65) (h : post (nI (cs_n v))) : wpX_ones post u (cs_w v) :=
  cs_wOnes (by rw [cs_b1 v hv]; exact h)
theorem cs_wRuns {post : Int32 → Prop} {u : St0} {v : Nat} (hv : v < 65) (h : post (nI (cs_n v))) : wpX_runsIn post u (cs_w v) := by
  unfold wpX_runsIn
  exact cs_wOnes (by rw [cs_b2 v hv]; exact h)
theorem cs_wLow {post : Int32 → Prop} {u : St0} {v : Nat} (hv : v < 64) (h : post (nI v)) : wpX_lowest post u (cs_w v) := by
  unfold wpX_lowest
  exact cs_wOnes (by rw [cs_b3 v hv]; exact h)
theorem cs_bad0 {post : Int32 → Prop} {u : St0} {x : Int32} {s : Nat} (hx : x = nI s) (hs : s < 4) (h : post 0) : wpX_bad post u x := by
  subst hx
  exact br_f (nI_pos (by omega)) (br_t (nI_lt (b := 4) hs (by decide)) h)
theorem cs_bad1 {post : Int32 → Prop} {u : St0} {x : Int32} (hx : x < 0 ∨ ¬ x < 4) (h : post 1) : wpX_bad post u x :=
  br_c (fun _ => h) (fun g => br_f (hx.resolve_left g) h)
theorem cs_num0 {post : Int32 → Prop} {u : St0} {x : Int32} {s : Nat} (hx : x = nI s) (hs : s < 1024) (h : post 0) : wpX_badNumber post u x := by
  subst hx
  exact br_f (nI_pos (by omega)) (br_t (nI_lt (b := 1024) hs (by decide)) h)
theorem cs_num1 {post : Int32 → Prop} {u : St0} {x : Int32} (hx : x < 0 ∨ ¬ x < 1024) (h : post 1) : wpX_badNumber post u x :=
  br_c (fun _ => h) (fun g => br_f (hx.resolve_left g) h)
theorem cs_at {c : Nat} (hc : c < 64) : (nI c).toNatClampNeg = c := nI_clamp (by omega)
theorem cs_slot {c : Nat} (hc : c < 64) : (nI c * 8 + nI 0).toNatClampNeg = c * 8 := by
  rw [cs_ix, nI_clamp (by omega)]
  rfl
theorem cs_slotIn {c : Nat} (hc : c < 64) : vp_in (nI c * 8 + nI 0) 512 := pk_in (c * 8) 512 (by omega) (cs_ix c 0)
theorem cs_seek {post : Int32 → Prop} {x y : Int32} {c v : Nat} (k : cs_K p a1 a2 a3 a4) (hx : x = nI c) (hy : y = nI v) (hc : c < 64) (hv : v < 64)
    (h : post (nI (if p c < v then 1 else 0))) : wpX_seek post (f, a1, a2, a3, a4, a5, a6, a7) x y := by
  subst hx
  subst hy
  obtain ⟨_, _, k3, k4⟩ := k c hc
  unfold wpX_seek
  refine ⟨pk_in c 64 hc, nm_r (e' := nI (cs_n (p c))) (by rw [cs_at hc]; exact k3) ?_⟩
  by_cases hp : p c < 64
  · rw [cs_n1 hp]
    have sl : a4 (nI c * 8 + nI 0).toNatClampNeg = nI (p c) := by rw [cs_slot hc]; exact k4 hp
    refine ⟨2, pk_le 1 0 (fun z => absurd z (by omega)) (fun _ => ⟨by decide, nm_r (e' := nI 0) (by decide) ⟨cs_slotIn hc, pk_le v (p c) (fun z => ?_) (fun z => nm_r (e' := nI 1) (by decide) ?_) rfl sl⟩⟩)⟩
    · rw [if_neg (by omega)] at h
      exact pk_le 0 0 (fun _ => h) (fun z => absurd z (by omega))
    · rw [if_pos z] at h
      exact pk_le 1 1 (fun _ => h) (fun z => absurd z (by omega))
  · rw [cs_n0 hp]
    rw [if_neg (by omega)] at h
    exact ⟨1, pk_le 0 0 (fun _ => h) (fun z => absurd z (by omega))⟩
theorem cs_contains {post : Int32 → Prop} {x y : Int32} {c v : Nat} (k : cs_K p a1 a2 a3 a4) (hx : x = nI c) (hy : y = nI v) (hc : c < 64) (hv : v < 64)
    (h : post (nI (if p c = v then 1 else 0))) : wpX_contains post (f, a1, a2, a3, a4, a5, a6, a7) x y := by
  subst hx
  subst hy
  obtain ⟨k1, _, k3, k4⟩ := k c hc
  have i := pk_in (x := nI c) c 64 hc
  have e1 : a1 (nI c).toNatClampNeg = 0 := by rw [cs_at hc]; exact k1
  have e3 : a3 (nI c).toNatClampNeg = nI (cs_n (p c)) := by rw [cs_at hc]; exact k3
  unfold wpX_contains
  refine ⟨i, br_f (by rw [e1]; decide) ⟨i, br_t e1 (cs_seek k rfl rfl hc hv ⟨i, ?_⟩)⟩⟩
  by_cases hp : p c < 64
  · rw [cs_n1 hp] at e3
    by_cases hq : p c < v
    · rw [if_pos hq]
      rw [if_neg (by omega)] at h
      exact pk_le 1 1 (fun _ => h) (fun z => absurd z (by omega)) e3
    · rw [if_neg hq]
      refine pk_le 1 0 (fun z => absurd z (by omega)) (fun _ => ⟨cs_slotIn hc, pk_eq (p c) v (fun z => ?_) (fun z => ?_) (by rw [cs_slot hc]; exact k4 hp) rfl⟩) e3
      · rw [if_pos z] at h
        exact h
      · rw [if_neg z] at h
        exact h
  · rw [cs_n0 hp] at e3
    rw [if_neg (by omega)]
    rw [if_neg (by omega)] at h
    exact pk_le 0 0 (fun _ => h) (fun z => absurd z (by omega)) e3
theorem cs_wordOf {post : Int64 → Prop} {x : Int32} {c : Nat} (k : cs_K p a1 a2 a3 a4) (hx : x = nI c) (hc : c < 64)
    (h : post (cs_w (p c))) : wpX_wordOf post (f, a1, a2, a3, a4, a5, a6, a7) x := by
  subst hx
  obtain ⟨k1, _, k3, k4⟩ := k c hc
  have i := pk_in (x := nI c) c 64 hc
  have e1 : a1 (nI c).toNatClampNeg = 0 := by rw [cs_at hc]; exact k1
  have e3 : a3 (nI c).toNatClampNeg = nI (cs_n (p c)) := by rw [cs_at hc]; exact k3
  unfold wpX_wordOf
  refine ⟨i, br_f (by rw [e1]; decide) ⟨i, br_t e1 ?_⟩⟩
  by_cases hp : p c < 64
  · rw [cs_n1 hp] at e3
    have sl : a4 (nI c * 8 + nI 0).toNatClampNeg = nI (p c) := by rw [cs_slot hc]; exact k4 hp
    exact ⟨2, i, pk_le 1 0 (fun z => absurd z (by omega)) (fun _ => ⟨cs_slotIn hc, nm_r (e' := cs_w (p c)) ((congrArg (fun t : Int32 => (0 : Int64) ||| ((1 : Int64) <<< (t.toInt64 &&& 63))) sl).trans (cs_b4 _ hp)) (nm_r (e' := nI 1) (by decide) ⟨i, pk_le 1 1 (fun _ => h) (fun z => absurd z (by omega)) e3⟩)⟩) e3⟩
  · rw [cs_n0 hp] at e3
    rw [cs_w0 hp] at h
    exact ⟨1, i, pk_le 0 0 (fun _ => h) (fun z => absurd z (by omega)) e3⟩
theorem cs_total {post : Int32 → Prop} {x : Int32} {s q : Nat} (k : cs_K p a1 a2 a3 a4) (hx : x = nI s) (hs : s < 4) (hq : cs_S p s q)
    (h : post (nI (if q / 64 < 16 then 1 else 0))) : wpX_total post (f, a1, a2, a3, a4, a5, a6, a7) x := by
  subst hx
  unfold wpX_total
  refine nm_r (e' := nI (s * 16)) (pk_mul s 16) ?_
  exact pk_loop (fun n i y => wX_total_7 post (nI s) f a1 a2 a3 a4 a5 a6 a7 n y (nI (s * 16 + i))) (fun i y => y = nI (if q / 64 < i then 1 else 0)) 16 0 0 (by omega) (by rw [if_neg (by omega)]; rfl)
    (fun n y hy => pk_le (s * 16 + 16) (s * 16 + 16) (fun _ => by rw [hy]; exact h) (fun z => absurd z (by omega)) (cs_sc s 16) rfl)
    (fun n i y hi hy hw => pk_le (s * 16 + 16) (s * 16 + i) (fun z => absurd z (by omega)) (fun _ => ⟨pk_in (s * 16 + i) 64 (by omega), nm_e (nm_r (nI_1 _) (hw _ (by
      rw [hy, nI_clamp (by omega), (k (s * 16 + i) (by omega)).2.1, hq i hi, cs_Pn, nI_add]
      congr 1
      split <;> split <;> split <;> omega)))⟩) (cs_sc s 16) rfl)
theorem cs_below {post : Int32 → Prop} {x y : Int32} {c v : Nat} (k : cs_K p a1 a2 a3 a4) (hx : x = nI c) (hy : y = nI v) (hc : c < 64) (hv : v < 64)
    (h : post (nI (if p c < v then 1 else 0))) : wpX_below post (f, a1, a2, a3, a4, a5, a6, a7) x y := by
  have i := pk_in (x := x) c 64 hc hx
  have e1 : a1 x.toNatClampNeg = 0 := by rw [hx, cs_at hc]; exact (k c hc).1
  unfold wpX_below
  exact ⟨i, br_t e1 (cs_seek k hx hy hc hv h)⟩
theorem cs_and63 {n : Nat} (h : n < 1024) : nI n &&& 63 = nI (n % 64) := pk_andN (by omega) 6 (by decide)
theorem cs_shr6 {n : Nat} (h : n < 1024) : nI n >>> ((6 : Int32) &&& 31) = nI (n / 64) := pk_shrN (by omega) _ 6 (by decide)
theorem cs_rank {post : Int32 → Prop} {x w : Int32} {s q y : Nat} (k : cs_K p a1 a2 a3 a4) (hx : x = nI s) (hw' : w = nI y) (hs : s < 4) (hy' : y < 1024) (hq : cs_S p s q)
    (h : post (nI (if q < y then 1 else 0))) : wpX_rankOf post (f, a1, a2, a3, a4, a5, a6, a7) x w := by
  subst hx
  subst hw'
  unfold wpX_rankOf
  refine nm_r (e' := nI (y / 64)) (cs_shr6 hy') ?_
  exact pk_loop (fun n i t => wX_rankOf_11 post (nI s) (nI y) (nI (y / 64)) f a1 a2 a3 a4 a5 a6 a7 n t (nI i)) (fun i t => t = nI (if q / 64 < i then 1 else 0)) (y / 64) 0 0 (by omega) (by rw [if_neg (by omega)]; rfl)
    (fun n t ht => pk_le (y / 64) (y / 64) (fun _ => pk_le 16 (y / 64) (fun z => absurd z (by omega)) (fun _ => cs_below k (cs_sc s (y / 64)) (cs_and63 hy') (by omega) (by omega) (by
      rw [ht, nI_add, hq (y / 64) (by omega)]
      have e : (if q / 64 < y / 64 then 1 else 0) + (if cs_P q (y / 64) < y % 64 then 1 else 0) = if q < y then 1 else 0 := by
        unfold cs_P
        split <;> split <;> split <;> split <;> omega
      rw [e]
      exact h))) (fun z => absurd z (by omega)))
    (fun n i t hi ht hw => pk_le (y / 64) i (fun z => absurd z (by omega)) (fun _ => ⟨pk_in (s * 16 + i) 64 (by omega) (cs_sc s i), nm_e (nm_r (nI_1 _) (hw _ (by
      rw [ht, cs_sc, nI_clamp (by omega), (k (s * 16 + i) (by omega)).2.1, hq i (by omega), cs_Pn, nI_add]
      congr 1
      split <;> split <;> split <;> omega)))⟩))
theorem cs_pick0 {post : Int32 → Prop} {x y : Int32} {c : Nat} (k : cs_K p a1 a2 a3 a4) (hx : x = nI c) (hy : y = nI 0) (hc : c < 64) (hp : p c < 64)
    (h : post (nI (p c))) : wpX_pick post (f, a1, a2, a3, a4, a5, a6, a7) x y := by
  subst hx
  subst hy
  obtain ⟨k1, _, k3, k4⟩ := k c hc
  have i := pk_in (x := nI c) c 64 hc
  have e1 : a1 (nI c).toNatClampNeg = 0 := by rw [cs_at hc]; exact k1
  have sl : a4 (nI c * 8 + nI 0).toNatClampNeg = nI (p c) := by rw [cs_slot hc]; exact k4 hp
  unfold wpX_pick
  exact ⟨i, br_t e1 ⟨cs_slotIn hc, by rw [sl]; exact h⟩⟩
/-- select finds the only number -/
theorem cs_sel0 {post : Int32 → Prop} {x y : Int32} {s q : Nat} (k : cs_K p a1 a2 a3 a4) (hx : x = nI s) (hy : y = nI 0) (hs : s < 4) (hq : cs_S p s q) (hq1 : q < 1024)
    (h : post (nI q)) : wpX_select post (f, a1, a2, a3, a4, a5, a6, a7) x y := by
  subst hx
  subst hy
  unfold wpX_select
  refine cs_bad0 rfl hs (br_t rfl (br_t (nI_pos' (by omega)) ?_))
  have e16 : ∀ j, j < 16 → a2 (nI (s * 16 + j)).toNatClampNeg = nI (if q / 64 = j then 1 else 0) := fun j hj => by
    rw [nI_clamp (by omega), (k (s * 16 + j) (by omega)).2.1, hq j hj, cs_Pn]
  exact pk_loop (fun n i t => wX_select_21 post (nI s) f a1 a2 a3 a4 a5 a6 a7 n t (nI i)) (fun i t => t = nI 0) (q / 64) 0 (nI 0) (by omega) rfl
    (fun n t ht => pk_le 16 (q / 64) (fun z => absurd z (by omega)) (fun _ => nm_r (cs_sc s (q / 64)) ⟨pk_in (s * 16 + q / 64) 64 (by omega), pk_le 1 0 (fun z => absurd z (by omega)) (fun _ => cs_pick0 k rfl ht (by omega) (by rw [hq (q / 64) (by omega), cs_P, if_pos rfl]; omega) (by
      rw [hq (q / 64) (by omega), cs_P, if_pos rfl, show (64 : Int32) = nI 64 from rfl, pk_mul, nI_add, show 64 * (q / 64) + q % 64 = q by omega]
      exact h)) (by rw [e16 _ (by omega), if_pos rfl]) ht⟩))
    (fun n i t hi ht hw => pk_le 16 i (fun z => absurd z (by omega)) (fun _ => nm_r (cs_sc s i) ⟨pk_in (s * 16 + i) 64 (by omega), pk_le 0 0 (fun _ => ⟨pk_in (s * 16 + i) 64 (by omega), nm_e (nm_r (nI_1 _) (hw _ (by
      rw [ht, e16 i (by omega), if_neg (by omega)]
      decide)))⟩) (fun z => absurd z (by omega)) (by rw [e16 i (by omega), if_neg (by omega)]) ht⟩))
/-- select finds none -/
theorem cs_selN {post : Int32 → Prop} {x y : Int32} {s q m : Nat} (k : cs_K p a1 a2 a3 a4) (hx : x = nI s) (hy : y = nI m) (hs : s < 4) (hq : cs_S p s q) (hm : m = 1 ∨ (m = 0 ∧ 1024 ≤ q))
    (h : post (-3)) : wpX_select post (f, a1, a2, a3, a4, a5, a6, a7) x y := by
  subst hx
  subst hy
  unfold wpX_select
  refine cs_bad0 rfl hs (br_t rfl (br_t (nI_pos' (by omega)) ?_))
  have e16 : ∀ j, j < 16 → a2 (nI (s * 16 + j)).toNatClampNeg = nI (if q / 64 = j then 1 else 0) := fun j hj => by
    rw [nI_clamp (by omega), (k (s * 16 + j) (by omega)).2.1, hq j hj, cs_Pn]
  exact pk_loop (fun n i t => wX_select_21 post (nI s) f a1 a2 a3 a4 a5 a6 a7 n t (nI i)) (fun i t => t = nI (m - if q / 64 < i then 1 else 0)) 16 0 (nI m) (by omega) (by rw [if_neg (by omega)]; rfl)
    (fun n t ht => pk_le 16 16 (fun _ => h) (fun z => absurd z (by omega)))
    (fun n i t hi ht hw => pk_le 16 i (fun z => absurd z (by omega)) (fun _ => nm_r (cs_sc s i) ⟨pk_in (s * 16 + i) 64 (by omega), pk_le (if q / 64 = i then 1 else 0) (m - if q / 64 < i then 1 else 0) (fun _ => ⟨pk_in (s * 16 + i) 64 (by omega), nm_e (nm_r (nI_1 _) (hw _ (by
      rw [ht, e16 i (by omega), pk_sub (by split <;> split <;> omega)]
      congr 1
      split <;> split <;> split <;> omega)))⟩) (fun z => absurd z (by split <;> split <;> omega)) (e16 i (by omega)) ht (by split <;> omega) (by split <;> omega)⟩))
theorem cs_next {post : Int32 → Prop} {x w : Int32} {s q y : Nat} (k : cs_K p a1 a2 a3 a4) (hx : x = nI s) (hw : w = nI y) (hs : s < 4) (hy : y < 1024) (hq : cs_S p s q)
    (h1 : q < 1024 → y ≤ q → post (nI q)) (h2 : 1024 ≤ q ∨ q < y → post (-3)) : wpX_next post (f, a1, a2, a3, a4, a5, a6, a7) x w := by
  unfold wpX_next
  refine cs_bad0 hx hs (br_t rfl (cs_num0 hw hy (br_t rfl (cs_rank k hx hw hs hy hq ?_))))
  by_cases c : q < y
  · rw [if_pos c]
    exact cs_selN k hx rfl hs hq (Or.inl rfl) (h2 (Or.inr c))
  · rw [if_neg c]
    by_cases d : q < 1024
    · exact cs_sel0 k hx rfl hs hq d (h1 d (by omega))
    · exact cs_selN k hx rfl hs hq (Or.inr ⟨rfl, by omega⟩) (h2 (Or.inl (by omega)))
theorem cs_narB (b : Nat) (hb : b < 2) : narrow .boolean (.int (nI b)) = .int (nI b) := by
  rcases (show b = 0 ∨ b = 1 by omega) with e | e <;> subst e <;> rfl
theorem cs_has {post : Int32 → Prop} {x w : Int32} {s q y : Nat} (k : cs_K p a1 a2 a3 a4) (hx : x = nI s) (hw : w = nI y) (hs : s < 4) (hy : y < 1024) (hq : cs_S p s q)
    (h : post (nI (if q = y then 1 else 0))) : wpX_has post (f, a1, a2, a3, a4, a5, a6, a7) x w := by
  subst hx
  subst hw
  unfold wpX_has
  refine cs_bad0 rfl hs (br_t rfl (cs_num0 rfl hy (br_t rfl (cs_contains k (by rw [cs_shr6 hy]; exact cs_sc s (y / 64)) (cs_and63 hy) (by omega) (by omega) ?_))))
  have e : (if p (s * 16 + y / 64) = y % 64 then 1 else 0) = if q = y then 1 else 0 := by
    rw [hq (y / 64) (by omega)]
    unfold cs_P
    split <;> split <;> split <;> omega
  rw [e]
  exact ⟨cs_narB _ (by split <;> omega), h⟩
theorem cs_hasN {post : Int32 → Prop} {x w : Int32} {s q : Nat} (k : cs_K p a1 a2 a3 a4) (hx : x = nI s) (hs : s < 4) (hq : cs_S p s q) (hq1 : 1024 ≤ q)
    (h : post 0) : wpX_has post (f, a1, a2, a3, a4, a5, a6, a7) x w := by
  by_cases c : w < 0
  · unfold wpX_has
    exact cs_bad0 hx hs (br_t rfl (cs_num1 (Or.inl c) (br_f (by decide) h)))
  · by_cases d : w < 1024
    · obtain ⟨y, hy, e⟩ := nI_of c
      rw [e, show (1024 : Int32) = nI 1024 from rfl, nI_ltI hy (by omega)] at d
      exact cs_has k hx e hs d hq (by rw [if_neg (by omega)]; exact h)
    · unfold wpX_has
      exact cs_bad0 hx hs (br_t rfl (cs_num1 (Or.inr d) (br_f (by decide) h)))
end
end
section
section
variable {f : Int32} {a1 a2 a3 a4 : Nat → Int32} {a5 a6 : Nat → Int64} {a7 : Nat → Int32} {p : Nat → Nat}
theorem cs_upSlot {b : Nat → Int32} {c : Nat} {y : Int32} (hc : c < 64) : upd b (nI c * 8 + nI 0).toNatClampNeg y = upd b (c * 8) y := by
  rw [cs_ix, nI_clamp (by omega)]
  rfl
theorem cs_upAt {b : Nat → Int32} {c : Nat} {y : Int32} (hc : c < 64) : upd b (nI c).toNatClampNeg y = upd b c y := by
  rw [nI_clamp (by omega)]
theorem cs_insert {post : St2 → Prop} {x y : Int32} {c v : Nat} (k : cs_K p a1 a2 a3 a4) (hx : x = nI c) (hy : y = nI v) (hc : c < 64) (hv : v < 64) (hp : p c = 64)
    (h : ∀ b2 b3 b4, cs_K (cs_up p c v) a1 b2 b3 b4 → post (f, a1, b2, b3, b4, a5, a6, a7)) : wpX_insert post (f, a1, a2, a3, a4, a5, a6, a7) x y := by
  subst hx
  subst hy
  obtain ⟨k1, k2, k3, k4⟩ := k c hc
  rw [cs_n0 (by omega)] at k2 k3
  have i := pk_in (x := nI c) c 64 hc
  have e1 : a1 (nI c).toNatClampNeg = 0 := by rw [cs_at hc]; exact k1
  have e3 : a3 (nI c).toNatClampNeg = nI 0 := by rw [cs_at hc]; exact k3
  unfold wpX_insert
  refine ⟨i, br_t e1 ⟨i, br_f (by rw [e3]; decide) (cs_seek k rfl rfl hc hv ⟨i, nm_r (e' := nI 0) e3 ?_⟩)⟩⟩
  rw [if_neg (by omega)]
  refine ⟨1, pk_le 0 0 (fun _ => ⟨cs_slotIn hc, nm_r (e' := upd a4 (c * 8) (nI v)) (cs_upSlot hc) ⟨i, i, nm_r (e' := upd a3 c (nI 1)) ?_ ⟨i, i, nm_r (e' := upd a2 c (nI 1)) ?_ (h _ _ _ (cs_Kup k k1 ?_ ?_ ?_ (fun _ _ => rfl) (fun _ g => pk_un g) (fun _ g => pk_un g) (fun _ g => pk_un (by omega))))⟩⟩⟩) (fun z => absurd z (by omega))⟩
  · rw [cs_upAt hc, cs_at hc, k3]
    rfl
  · rw [cs_upAt hc, cs_at hc, k2]
    rfl
  · rw [pk_us, cs_n1 hv]
  · rw [pk_us, cs_n1 hv]
  · exact fun _ => pk_us
theorem cs_storeList {post : St2 → Prop} {x : Int32} {c v : Nat} (hx : x = nI c) (hc : c < 64) (e2 : a2 c = nI (cs_n v))
    (h : ∀ b4, (∀ j, j ≠ c → b4 (j * 8) = a4 (j * 8)) → (v < 64 → b4 (c * 8) = nI v) → post (f, upd a1 c 0, a2, upd a3 c (nI (cs_n v)), b4, a5, a6, a7)) :
    wpX_storeList post (f, a1, a2, a3, a4, a5, a6, a7) x (cs_w v) := by
  subst hx
  have i := pk_in (x := nI c) c 64 hc
  have g2 : a2 (nI c).toNatClampNeg = nI (cs_n v) := by rw [cs_at hc]; exact e2
  have g3 : upd a3 (nI c).toNatClampNeg (a2 (nI c).toNatClampNeg) = upd a3 c (nI (cs_n v)) := by rw [g2, cs_upAt hc]
  unfold wpX_storeList
  refine ⟨i, nm_r (e' := upd a1 c 0) (cs_upAt hc) ?_⟩
  by_cases hv : v < 64
  · have g2' : a2 (nI c).toNatClampNeg = nI 1 := by rw [g2, cs_n1 hv]
    exact ⟨2, i, pk_le 1 0 (fun z => absurd z (by omega)) (fun _ => cs_wLow hv ⟨cs_slotIn hc, nm_r (e' := upd a4 (c * 8) (nI v)) (cs_upSlot hc) (nm_e (nm_r (e' := nI 1) (by decide) ⟨i, pk_le 1 1 (fun _ => ⟨i, i, nm_r g3 (h _ (fun _ g => pk_un (by omega)) (fun _ => pk_us))⟩) (fun z => absurd z (by omega)) g2'⟩))⟩) g2'⟩
  · have g2' : a2 (nI c).toNatClampNeg = nI 0 := by rw [g2, cs_n0 hv]
    exact ⟨1, i, pk_le 0 0 (fun _ => ⟨i, i, nm_r g3 (h _ (fun _ _ => rfl) (fun g => absurd g hv))⟩) (fun z => absurd z (by omega)) g2'⟩
theorem cs_store {post : St2 → Prop} {x : Int32} {w : Int64} {c v : Nat} (k : cs_K p a1 a2 a3 a4) (hx : x = nI c) (hw : w = cs_w v) (hc : c < 64) (hv : v < 65)
    (h : ∀ b1 b2 b3 b4, cs_K (cs_up p c v) b1 b2 b3 b4 → post (f, b1, b2, b3, b4, a5, a6, a7)) : wpX_store post (f, a1, a2, a3, a4, a5, a6, a7) x w := by
  subst hx
  subst hw
  have i := pk_in (x := nI c) c 64 hc
  unfold wpX_store
  refine cs_wOnesN hv (cs_wRuns hv ⟨i, nm_r (e' := upd a2 c (nI (cs_n v))) (cs_upAt hc) (br_t (cs_n2 v) (br_f (cs_n8 v) (cs_storeList rfl hc pk_us (fun b4 o4 e4 => ?_))))⟩)
  exact h _ _ _ _ (cs_Kup k pk_us pk_us pk_us e4 (fun _ g => pk_un g) (fun _ g => pk_un g) (fun _ g => pk_un g) o4)
theorem cs_add1 {post : Int32 → St2 → Prop} {x y : Int32} {s q : Nat} (k : cs_K p a1 a2 a3 a4) (hx : x = nI s) (hy : y = nI q) (hs : s < 4) (hq : q < 1024) (hp : p (s * 16 + q / 64) = 64)
    (h : ∀ b2 b3 b4, cs_K (cs_up p (s * 16 + q / 64) (q % 64)) a1 b2 b3 b4 → post 1 (f, a1, b2, b3, b4, a5, a6, a7)) : wpX_add post (f, a1, a2, a3, a4, a5, a6, a7) x y := by
  subst hx
  subst hy
  unfold wpX_add
  refine cs_bad0 rfl hs (br_t rfl (cs_num0 rfl hq (br_t rfl (nm_r (e' := nI (s * 16 + q / 64)) (by rw [cs_shr6 hq]; exact cs_sc s (q / 64)) (cs_contains k rfl (cs_and63 hq) (by omega) (by omega) ?_)))))
  rw [if_neg (by omega)]
  exact br_t rfl (cs_insert k rfl (cs_and63 hq) (by omega) (by omega) hp h)
theorem cs_addB {post : Int32 → St2 → Prop} {x y : Int32} (hx : x < 0 ∨ ¬ x < 4)
    (h : post (-1) (f, a1, a2, a3, a4, a5, a6, a7)) : wpX_add post (f, a1, a2, a3, a4, a5, a6, a7) x y := by
  unfold wpX_add
  exact cs_bad1 hx (br_f (by decide) h)
theorem cs_addN {post : Int32 → St2 → Prop} {x y : Int32} {s : Nat} (hx : x = nI s) (hs : s < 4) (hy : y < 0 ∨ ¬ y < 1024)
    (h : post (-2) (f, a1, a2, a3, a4, a5, a6, a7)) : wpX_add post (f, a1, a2, a3, a4, a5, a6, a7) x y := by
  unfold wpX_add
  exact cs_bad0 hx hs (br_t rfl (cs_num1 hy (br_f (by decide) h)))
/-- two lists that are one and the same: all is met -/
theorem cs_merge {post : St2 → Prop} {x z : Int32} {c b : Nat} (k : cs_K p a1 a2 a3 a4) (hx : x = nI c) (hz : z = nI b) (hc : c < 64) (hb : b < 2)
    (h : ∀ b7, (b = 1 → p c < 64 → b7 0 = nI (p c)) → post (nI (if b = 1 then cs_n (p c) else 0), a1, a2, a3, a4, a5, a6, b7)) :
    wpX_mergeLists post (f, a1, a2, a3, a4, a5, a6, a7) x x z := by
  subst hx
  subst hz
  obtain ⟨k1, k2, k3, k4⟩ := k c hc
  have i := pk_in (x := nI c) c 64 hc
  have e3 : a3 (nI c).toNatClampNeg = nI (cs_n (p c)) := by rw [cs_at hc]; exact k3
  unfold wpX_mergeLists
  by_cases hp : p c < 64
  · rw [cs_n1 hp] at e3 h
    have sl : a4 (nI c * 8 + nI 0).toNatClampNeg = nI (p c) := by rw [cs_slot hc]; exact k4 hp
    refine ⟨2, i, pk_le 1 0 (fun z => absurd z (by omega)) (fun _ => ⟨cs_slotIn hc, nm_r (e' := nI (p c)) sl ⟨1, i, pk_le 1 0 (fun z => absurd z (by omega)) (fun _ => ⟨cs_slotIn hc, pk_le (p c) (p c) (fun _ => ?_) (fun z => absurd z (by omega)) rfl sl⟩) e3⟩⟩) e3⟩
    refine ⟨i, pk_le 1 0 (fun z => absurd z (by omega)) (fun _ => ⟨cs_slotIn hc, br_t sl ?_⟩) e3⟩
    refine pk_eq 1 b (fun z => ⟨pk_in 0 8 (by omega), nm_e (nm_r (e' := nI 1) (by decide) (nm_r (e' := nI 1) (by decide) ⟨i, pk_le 1 1 (fun _ => ?_) (fun z => absurd z (by omega)) e3⟩))⟩) (fun z => nm_r (e' := nI 1) (by decide) ⟨i, pk_le 1 1 (fun _ => ?_) (fun z => absurd z (by omega)) e3⟩)
    · have t := h (upd a7 (0 : Int32).toNatClampNeg (nI (p c))) (fun _ _ => pk_us)
      rw [if_pos z.symm] at t
      exact t
    · have t := h a7 (fun g => absurd g.symm z)
      rw [if_neg (fun g => z g.symm)] at t
      exact t
  · rw [cs_n0 hp] at e3 h
    have t := h a7 (fun _ g => absurd g hp)
    rw [show (if b = 1 then 0 else 0) = 0 by split <;> rfl] at t
    exact ⟨1, i, pk_le 0 0 (fun _ => t) (fun z => absurd z (by omega)) e3⟩
theorem cs_storeM {post : St2 → Prop} {x : Int32} {d v : Nat} (k : cs_K p a1 a2 a3 a4) (hx : x = nI d) (hd : d < 64) (hf : f = nI (cs_n v)) (h7 : v < 64 → a7 0 = nI v)
    (h : ∀ b1 b2 b3 b4, cs_K (cs_up p d v) b1 b2 b3 b4 → post (f, b1, b2, b3, b4, a5, a6, a7)) : wpX_storeMerged post (f, a1, a2, a3, a4, a5, a6, a7) x := by
  subst hx
  have i := pk_in (x := nI d) d 64 hd
  unfold wpX_storeMerged
  refine ⟨i, nm_r (e' := upd a1 d 0) (cs_upAt hd) ⟨i, nm_r (e' := upd a2 d f) (cs_upAt hd) ⟨i, nm_r (e' := upd a3 d f) (cs_upAt hd) ?_⟩⟩⟩
  have H : ∀ b4 : Nat → Int32, (∀ j, j ≠ d → b4 (j * 8) = a4 (j * 8)) → (v < 64 → b4 (d * 8) = nI v) → post (f, upd a1 d 0, upd a2 d f, upd a3 d f, b4, a5, a6, a7) := fun b4 o4 e4 =>
    h _ _ _ _ (cs_Kup k pk_us (by rw [pk_us]; exact hf) (by rw [pk_us]; exact hf) e4 (fun _ g => pk_un g) (fun _ g => pk_un g) (fun _ g => pk_un g) o4)
  by_cases hv : v < 64
  · rw [cs_n1 hv] at hf
    exact ⟨2, pk_le 1 0 (fun z => absurd z (by omega)) (fun _ => ⟨pk_in 0 8 (by omega), cs_slotIn hd, nm_r (e' := upd a4 (d * 8) (nI v)) ((cs_upSlot hd).trans (by rw [← h7 hv]; rfl)) (nm_r (e' := nI 1) (by decide) (pk_le 1 1 (fun _ => H _ (fun _ g => pk_un (by omega)) (fun _ => pk_us)) (fun z => absurd z (by omega)) hf))⟩) hf⟩
  · rw [cs_n0 hv] at hf
    exact ⟨1, pk_le 0 0 (fun _ => H _ (fun _ _ => rfl) (fun g => absurd g hv)) (fun z => absurd z (by omega)) hf⟩
theorem cs_part53 {post : St2 → Prop} {x y w : Int32} {c d m : Nat} (k : cs_K p a1 a2 a3 a4) (hx : x = nI d) (hy : y = nI c) (hw : w = nI m) (hc : c < 64) (hd : d < 64) (hp : p c < 65) (hm : m = 0 ∨ m = 3)
    (h : ∀ b1 b2 b3 b4, cs_K (cs_up p d (if m ≤ 1 then p c else 64)) b1 b2 b3 b4 → post (f, b1, b2, b3, b4, a5, a6, a7)) :
    wX_combinePart_53 post x y y w f a1 a2 a3 a4 a5 a6 a7 := by
  subst hw
  obtain ⟨_, _, o3, o4⟩ := cs_b7 (p c) hp
  unfold wX_combinePart_53
  refine cs_wordOf k hy hc (cs_wordOf k hy hc ?_)
  rcases hm with e | e
  · subst e
    exact br_f (by decide) (br_f (by decide) (br_t (by decide) (cs_store k hx o3 hd hp (by rw [if_pos (by omega)] at h; exact h))))
  · subst e
    exact br_f (by decide) (br_t (by decide) (cs_store k hx o4 hd (by omega) (by rw [if_neg (by omega)] at h; exact h)))
theorem cs_part44 {post : St2 → Prop} {x y z : Int32} {c d b m : Nat} (k : cs_K p a1 a2 a3 a4) (hx : x = nI d) (hy : y = nI c) (hz : z = nI b) (hc : c < 64) (hd : d < 64) (hm : (b = 1 ∧ m = 1) ∨ (b = 0 ∧ m = 2))
    (h : ∀ f' b1 b2 b3 b4 b7, cs_K (cs_up p d (if m ≤ 1 then p c else 64)) b1 b2 b3 b4 → post (f', b1, b2, b3, b4, a5, a6, b7)) :
    wX_combinePart_44 post x z y y f a1 a2 a3 a4 a5 a6 a7 := by
  unfold wX_combinePart_44
  refine cs_merge k hy hz hc (by omega) (fun b7 e7 => cs_storeM (v := if m ≤ 1 then p c else 64) k hx hd ?_ ?_ (fun b1 b2 b3 b4 k' => h _ b1 b2 b3 b4 b7 k'))
  · rcases hm with ⟨e, e'⟩ | ⟨e, e'⟩
    · subst e
      subst e'
      rw [if_pos rfl, if_pos (by omega)]
    · subst e
      subst e'
      rw [if_neg (by omega), if_neg (by omega)]
      rfl
  · intro g
    rcases hm with ⟨e, e'⟩ | ⟨e, e'⟩
    · subst e'
      rw [if_pos (by omega)] at g
      rw [if_pos (by omega)]
      exact e7 e g
    · subst e'
      rw [if_neg (by omega)] at g
      omega
theorem cs_part {post : St2 → Prop} {x y w : Int32} {c d m : Nat} (k : cs_K p a1 a2 a3 a4) (hx : x = nI d) (hy : y = nI c) (hw : w = nI m) (hc : c < 64) (hd : d < 64) (hp : p c < 65) (hm : m < 4)
    (h : ∀ f' b1 b2 b3 b4 b7, cs_K (cs_up p d (if m ≤ 1 then p c else 64)) b1 b2 b3 b4 → post (f', b1, b2, b3, b4, a5, a6, b7)) :
    wpX_combinePart post (f, a1, a2, a3, a4, a5, a6, a7) x y y w := by
  have i := pk_in (x := y) c 64 hc hy
  have e1 : a1 y.toNatClampNeg = 0 := by rw [hy, cs_at hc]; exact (k c hc).1
  unfold wpX_combinePart
  refine ⟨i, br_t e1 ⟨i, br_t e1 ?_⟩⟩
  refine pk_eq m 1 (fun e => ?_) (fun n1 => pk_eq m 2 (fun e => ?_) (fun n2 => ?_) hw) hw
  · exact br_t (by rw [hw, e]; rfl) (cs_part44 (b := 1) k hx hy rfl hc hd (Or.inl ⟨rfl, e⟩) h)
  · exact br_f (by rw [hw, e]; decide) (cs_part44 (b := 0) k hx hy rfl hc hd (Or.inr ⟨rfl, e⟩) h)
  · exact cs_part53 k hx hy hw hc hd hp (by omega) (fun b1 b2 b3 b4 k' => h f b1 b2 b3 b4 a7 k')
end
end
section
/-- a shift's two numbers: whole containers and the rest -/
theorem cs_by (y : Int32) : ∃ r : Nat, r < 64 ∧ y &&& 63 = nI r ∧ y.toInt = 64 * (y >>> ((6 : Int32) &&& 31)).toInt + r := by
  refine ⟨y.toBitVec.toNat % 2 ^ 6, by omega, pk_and y 6 (by decide), ?_⟩
  rw [pk_shr y _ 6 (by decide), Int.shiftRight_eq_div_pow]
  have e : y.toInt = y.toBitVec.toInt := rfl
  have e2 := BitVec.toInt_eq_toNat_cond y.toBitVec
  have e3 := y.toBitVec.isLt
  rw [e, e2]
  split <;> omega
theorem cs_toInt {x : Int32} {n : Nat} (h : x.toInt = (n : Int)) (hn : n < 2 ^ 31) : x = nI n := by
  apply Int32.toInt_inj.mp
  rw [h, nI_toInt hn]
theorem cs_lo {y : Int32} (h : ¬ y < -1023) : -1023 ≤ y.toInt := by
  rw [Int32.lt_iff_toInt_lt] at h
  have e : (-1023 : Int32).toInt = -1023 := by decide
  omega
theorem cs_hi {y : Int32} (h : y ≤ 1023) : y.toInt ≤ 1023 := by
  rw [Int32.le_iff_toInt_le] at h
  have e : (1023 : Int32).toInt = 1023 := by decide
  omega
theorem cs_subI {i : Nat} {y : Int32} (hi : i < 64) (h1 : -100 ≤ y.toInt) (h2 : y.toInt ≤ 100) : (nI i - y).toInt = i - y.toInt := by
  rw [Int32.toInt_sub, nI_toInt (by omega)]
  exact Int.bmod_eq_of_le (by omega) (by omega)
section
variable {f : Int32} {a1 a2 a3 a4 : Nat → Int32} {a5 a6 : Nat → Int64} {a7 : Nat → Int32} {p : Nat → Nat}
/-- one place of moved is written -/
theorem cs_s112 {post : Int32 → St2 → Prop} {J : Int32 → (Nat → Int32) → (Nat → Int32) → (Nat → Int32) → (Nat → Int32) → (Nat → Int64) → (Nat → Int64) → (Nat → Int32) → Prop} {x1 x3 : Int32} {w z : Int64} {i r u v m : Nat}
    (hi : i < 16) (hr : r < 64) (hw : w = cs_w u) (hz : z = cs_w v) (hu : u < 65) (hv : v < 65) (h0 : r = 0 → m = u)
    (h1 : (v < 64 ∧ 64 ≤ v + r ∧ ¬ u + r < 64 ∧ m = v + r - 64) ∨ (¬ (v < 64 ∧ 64 ≤ v + r) ∧ u + r < 64 ∧ m = u + r) ∨ (¬ (v < 64 ∧ 64 ≤ v + r) ∧ ¬ u + r < 64 ∧ m = 64))
    (h : J (nI (i + 1)) a1 a2 a3 a4 a5 (vp_updL a6 i (cs_w m)) a7) : wX_shift_112 post J x1 x3 (nI r) (nI i) w z f a1 a2 a3 a4 a5 a6 a7 := by
  subst hw
  subst hz
  unfold wX_shift_112
  refine pk_eq r 0 (fun e => ⟨pk_in i 16 hi, nm_r (e' := vp_updL a6 i (cs_w m)) ?_ (nm_r (nI_1 i) h)⟩) (fun e => ⟨pk_in i 16 hi, nm_r (e' := vp_updL a6 i (cs_w m)) ?_ (nm_r (nI_1 i) h)⟩)
  · rw [nI_clamp (by omega), h0 e]
  · rw [nI_clamp (by omega), cs_b5 u hu r hr, cs_b6 v hv r hr (by omega)]
    congr 1
    rcases h1 with ⟨g1, g2, g3, g4⟩ | ⟨g1, g3, g4⟩ | ⟨g1, g3, g4⟩
    · rw [if_neg g3, if_pos ⟨g1, g2⟩, g4]
      exact (cs_b7 _ (by omega)).2.1
    · rw [if_pos g3, if_neg g1, g4]
      exact (cs_b7 _ (by omega)).1
    · rw [if_neg g3, if_neg g1, g4]
      exact (cs_b7 _ (by omega)).1
theorem cs_s80 {post : Int32 → St2 → Prop} {J : Int32 → (Nat → Int32) → (Nat → Int32) → (Nat → Int32) → (Nat → Int32) → (Nat → Int64) → (Nat → Int64) → (Nat → Int32) → Prop} {x3 x6 : Int32} {w : Int64} {s q q' i r u : Nat} {B P : Int}
    (k : cs_K p a1 a2 a3 a4) (hs : s < 4) (hq : cs_S p s q) (hq1 : q ≤ 1024) (hr : r < 64) (hi : i < 16) (hB : B = 64 * P + r) (h6 : x6.toInt = i - P)
    (hq' : (q < 1024 ∧ (q' : Int) = q + B ∧ q' < 1024) ∨ (q' = 1024 ∧ (q = 1024 ∨ (q : Int) + B < 0 ∨ 1024 ≤ (q : Int) + B)))
    (hw : w = cs_w u) (hu65 : u < 65)
    (hu : (q < 1024 ∧ ((q / 64 : Nat) : Int) = i - P ∧ u = q % 64) ∨ (¬ (q < 1024 ∧ ((q / 64 : Nat) : Int) = i - P) ∧ u = 64))
    (h : J (nI (i + 1)) a1 a2 a3 a4 a5 (vp_updL a6 i (cs_w (cs_P q' i))) a7) : wX_shift_80 post J (nI s) x3 (nI r) (nI i) x6 w f a1 a2 a3 a4 a5 a6 a7 := by
  have H0 : (¬ (q < 1024 ∧ ((q / 64 : Nat) : Int) + 1 = i - P)) → wX_shift_111 post J (nI s) x3 (nI r) (nI i) w f a1 a2 a3 a4 a5 a6 a7 := fun g => by
    obtain ⟨t0, t1⟩ := cs_mv (v := 64) hq1 hr hi hB hq' hu (Or.inr ⟨g, rfl⟩)
    exact cs_s112 hi hr hw (cs_w0 (v := 64) (by omega)).symm hu65 (by omega) t0 t1 h
  unfold wX_shift_80
  refine br_c (fun g => H0 ?_) (fun g => br_c (fun g2 => H0 ?_) (fun g2 => ?_))
  · rw [Int32.lt_iff_toInt_lt] at g
    have e : (1 : Int32).toInt = 1 := by decide
    omega
  · rw [Int32.lt_iff_toInt_lt] at g2
    have e : (16 : Int32).toInt = 16 := by decide
    omega
  · rw [Int32.lt_iff_toInt_lt] at g g2
    have e1 : (1 : Int32).toInt = 1 := by decide
    have e16 : (16 : Int32).toInt = 16 := by decide
    obtain ⟨n, hn⟩ : ∃ n : Nat, ((n : Nat) : Int) + 1 = i - P := ⟨(i - P - 1).toNat, by omega⟩
    have e6 : x6 = nI (n + 1) := cs_toInt (by omega) (by omega)
    subst e6
    have hv : (q < 1024 ∧ ((q / 64 : Nat) : Int) + 1 = i - P ∧ cs_P q n = q % 64) ∨ (¬ (q < 1024 ∧ ((q / 64 : Nat) : Int) + 1 = i - P) ∧ cs_P q n = 64) := by
      unfold cs_P
      split <;> omega
    obtain ⟨t0, t1⟩ := cs_mv hq1 hr hi hB hq' hu hv
    refine cs_wordOf (c := s * 16 + n) k ?_ (by omega) ?_
    · rw [cs_sc]
      exact nI_pred (s * 16 + n)
    · rw [hq n (by omega)]
      exact cs_s112 hi hr hw rfl hu65 (cs_P65 q n) t0 t1 h
theorem cs_s40 {post : Int32 → St2 → Prop} {x3 : Int32} {s q q' r : Nat} {B : Int}
    (k : cs_K p a1 a2 a3 a4) (hs : s < 4) (hq : cs_S p s q) (hq1 : q ≤ 1024) (hr : r < 64) (hB : B = 64 * x3.toInt + r) (hP1 : -100 ≤ x3.toInt) (hP2 : x3.toInt ≤ 100)
    (hq' : (q < 1024 ∧ (q' : Int) = q + B ∧ q' < 1024) ∨ (q' = 1024 ∧ (q = 1024 ∨ (q : Int) + B < 0 ∨ 1024 ≤ (q : Int) + B)))
    (h : ∀ b6 : Nat → Int64, (∀ j, j < 16 → b6 j = cs_w (cs_P q' j)) → ∃ n, wX_shift_154 post (nI s) n 0 f a1 a2 a3 a4 a5 b6 a7) :
    ∃ n, wX_shift_40 post (nI s) x3 (nI r) f n 0 a1 a2 a3 a4 a5 a6 a7 :=
  pk_loop (fun n i b => wX_shift_40 post (nI s) x3 (nI r) f n (nI i) a1 a2 a3 a4 a5 b a7) (fun i b => ∀ j, j < i → b j = cs_w (cs_P q' j)) 16 0 a6 (by omega) (fun j hj => absurd hj (by omega))
    (fun n b hb => pk_le 16 16 (fun _ => h b hb) (fun z => absurd z (by omega)))
    (fun n i b hi hb hw => by
      have h6 := cs_subI (i := i) (by omega) hP1 hP2
      have Hn : wX_shift_40 post (nI s) x3 (nI r) f n (nI (i + 1)) a1 a2 a3 a4 a5 (vp_updL b i (cs_w (cs_P q' i))) a7 := hw _ (fun j hj => by
        by_cases e : j = i
        · rw [e, pk_uLs]
        · rw [pk_uLn e]
          exact hb j (by omega))
      refine pk_le 16 i (fun z => absurd z (by omega)) (fun _ => nm_e ?_)
      refine br_c (fun g => ?_) (fun g => br_c (fun g2 => ?_) (fun g2 => ?_))
      · rw [Int32.lt_iff_toInt_lt] at g
        have e : (0 : Int32).toInt = 0 := by decide
        exact cs_s80 k hs hq hq1 hr hi hB h6 hq' (cs_w0 (v := 64) (by omega)).symm (by omega) (Or.inr ⟨by omega, rfl⟩) Hn
      · rw [Int32.le_iff_toInt_le] at g2
        have e : (16 : Int32).toInt = 16 := by decide
        exact cs_s80 k hs hq hq1 hr hi hB h6 hq' (cs_w0 (v := 64) (by omega)).symm (by omega) (Or.inr ⟨by omega, rfl⟩) Hn
      · rw [Int32.lt_iff_toInt_lt] at g
        rw [Int32.le_iff_toInt_le] at g2
        have e0 : (0 : Int32).toInt = 0 := by decide
        have e16 : (16 : Int32).toInt = 16 := by decide
        obtain ⟨t, ht⟩ : ∃ t : Nat, ((t : Nat) : Int) = i - x3.toInt := ⟨(i - x3.toInt).toNat, by omega⟩
        have ex : nI i - x3 = nI t := cs_toInt (by omega) (by omega)
        refine cs_wordOf (c := s * 16 + t) k (by rw [ex]; exact cs_sc s t) (by omega) ?_
        rw [hq t (by omega)]
        exact cs_s80 k hs hq hq1 hr hi hB h6 hq' rfl (cs_P65 q t) (by unfold cs_P; split <;> omega) Hn)
theorem cs_s154 {post : Int32 → St2 → Prop} {s q' : Nat} (k : cs_K p a1 a2 a3 a4) (hs : s < 4) (h6 : ∀ j, j < 16 → a6 j = cs_w (cs_P q' j))
    (h : ∀ b1 b2 b3 b4 p', cs_K p' b1 b2 b3 b4 → cs_S p' s q' → post (nI (if q' / 64 < 16 then 1 else 0)) (f, b1, b2, b3, b4, a5, a6, a7)) :
    ∃ n, wX_shift_154 post (nI s) n 0 f a1 a2 a3 a4 a5 a6 a7 :=
  pk_loop (fun n i (b : (Nat → Int32) × (Nat → Int32) × (Nat → Int32) × (Nat → Int32)) => wX_shift_154 post (nI s) n (nI i) f b.1 b.2.1 b.2.2.1 b.2.2.2 a5 a6 a7) (fun i b => ∃ p', cs_K p' b.1 b.2.1 b.2.2.1 b.2.2.2 ∧ ∀ j, j < i → p' (s * 16 + j) = cs_P q' j) 16 0 (a1, a2, a3, a4) (by omega) ⟨p, k, fun j hj => absurd hj (by omega)⟩
    (fun n b hb => by
      obtain ⟨p', k', s'⟩ := hb
      exact pk_le 16 16 (fun _ => cs_total k' rfl hs s' (h _ _ _ _ p' k' s')) (fun z => absurd z (by omega)))
    (fun n i b hi hb hw => by
      obtain ⟨p', k', s'⟩ := hb
      refine pk_le 16 i (fun z => absurd z (by omega)) (fun _ => ⟨pk_in i 16 hi, cs_store (v := cs_P q' i) k' (cs_sc s i) ?_ (by omega) (cs_P65 q' i) (fun b1 b2 b3 b4 kb => nm_r (nI_1 i) (hw (b1, b2, b3, b4) ⟨_, kb, fun j hj => ?_⟩))⟩)
      · rw [nI_clamp (by omega)]
        exact h6 i hi
      · by_cases e : j = i
        · rw [e, cs_upS]
        · rw [cs_upN p' (by omega)]
          exact s' j (by omega))
theorem cs_shift {post : Int32 → St2 → Prop} {x y : Int32} {s q q' : Nat} (k : cs_K p a1 a2 a3 a4) (hx : x = nI s) (hs : s < 4) (hq : cs_S p s q) (hq1 : q ≤ 1024) (hy1 : ¬ y < -1023) (hy2 : y ≤ 1023)
    (hq' : (q < 1024 ∧ (q' : Int) = q + y.toInt ∧ q' < 1024) ∨ (q' = 1024 ∧ (q = 1024 ∨ (q : Int) + y.toInt < 0 ∨ 1024 ≤ (q : Int) + y.toInt)))
    (h : ∀ b1 b2 b3 b4 b6 p', cs_K p' b1 b2 b3 b4 → cs_S p' s q' → post (nI (if q' / 64 < 16 then 1 else 0)) (f, b1, b2, b3, b4, a5, b6, a7)) :
    wpX_shift post (f, a1, a2, a3, a4, a5, a6, a7) x y := by
  subst hx
  obtain ⟨r, hr, er, eB⟩ := cs_by y
  have l1 := cs_lo hy1
  have l2 := cs_hi hy2
  unfold wpX_shift
  refine cs_bad0 rfl hs (br_t rfl (br_f hy1 (br_t hy2 (nm_e (nm_r er ?_)))))
  exact cs_s40 k hs hq hq1 hr eB (by omega) (by omega) hq' (fun b6 e6 => cs_s154 k hs e6 (fun b1 b2 b3 b4 p' k' s' => h b1 b2 b3 b4 b6 p' k' s'))
theorem cs_shiftB {post : Int32 → St2 → Prop} {x y : Int32} (hx : x < 0 ∨ ¬ x < 4)
    (h : post (-1) (f, a1, a2, a3, a4, a5, a6, a7)) : wpX_shift post (f, a1, a2, a3, a4, a5, a6, a7) x y := by
  unfold wpX_shift
  exact cs_bad1 hx (br_f (by decide) h)
theorem cs_shiftN {post : Int32 → St2 → Prop} {x y : Int32} {s : Nat} (hx : x = nI s) (hs : s < 4) (hy : y < -1023 ∨ ¬ y ≤ 1023)
    (h : post (-2) (f, a1, a2, a3, a4, a5, a6, a7)) : wpX_shift post (f, a1, a2, a3, a4, a5, a6, a7) x y := by
  unfold wpX_shift
  exact cs_bad0 hx hs (br_t rfl (br_c (fun _ => h) (fun g => br_f (hy.resolve_left g) h)))
end
end
section
section
variable {f : Int32} {a1 a2 a3 a4 : Nat → Int32} {a5 a6 : Nat → Int64} {a7 : Nat → Int32} {p : Nat → Nat}
theorem cs_c40 {post : Int32 → St2 → Prop} {s t q m : Nat} (k : cs_K p a1 a2 a3 a4) (hs : s < 4) (ht : t < 4) (hm : m < 4) (hq : cs_S p s q)
    (h : ∀ f' b1 b2 b3 b4 b5 b6 b7 p', cs_K p' b1 b2 b3 b4 → cs_S p' t (if m ≤ 1 then q else 1024) → (t ≠ s → cs_S p' s q) → post (nI (if (if m ≤ 1 then q else 1024) / 64 < 16 then 1 else 0)) (f', b1, b2, b3, b4, b5, b6, b7)) :
    ∃ n, wX_combine_40 post (nI t) (nI s) (nI s) (nI m) n 0 f a1 a2 a3 a4 a5 a6 a7 :=
  pk_loop (fun n i (u : St2) => wX_combine_40 post (nI t) (nI s) (nI s) (nI m) n (nI i) u.1 u.2.1 u.2.2.1 u.2.2.2.1 u.2.2.2.2.1 u.2.2.2.2.2.1 u.2.2.2.2.2.2.1 u.2.2.2.2.2.2.2)
    (fun i u => ∃ p', cs_K p' u.2.1 u.2.2.1 u.2.2.2.1 u.2.2.2.2.1 ∧ (∀ j, j < i → p' (t * 16 + j) = cs_P (if m ≤ 1 then q else 1024) j) ∧ (∀ j, i ≤ j → j < 16 → p' (s * 16 + j) = cs_P q j) ∧ (t ≠ s → cs_S p' s q)) 16 0 (f, a1, a2, a3, a4, a5, a6, a7) (by omega)
    ⟨p, k, fun j hj => absurd hj (by omega), fun j _ hj => hq j hj, fun _ => hq⟩
    (fun n u hu => by
      obtain ⟨f', b1, b2, b3, b4, b5, b6, b7⟩ := u
      obtain ⟨p', k', s1, _, s3⟩ := hu
      exact pk_le 16 16 (fun _ => cs_total k' rfl ht s1 (h f' b1 b2 b3 b4 b5 b6 b7 p' k' s1 s3)) (fun z => absurd z (by omega)))
    (fun n i u hi hu hw => by
      obtain ⟨f', b1, b2, b3, b4, b5, b6, b7⟩ := u
      obtain ⟨p', k', s1, s2, s3⟩ := hu
      have e := s2 i (by omega) hi
      refine pk_le 16 i (fun z => absurd z (by omega)) (fun _ => cs_part (c := s * 16 + i) (d := t * 16 + i) (m := m) k' (cs_sc t i) (cs_sc s i) rfl (by omega) (by omega) (by rw [e]; exact cs_P65 q i) hm (fun g c1 c2 c3 c4 c7 kc => nm_r (nI_1 i) (hw (g, c1, c2, c3, c4, b5, b6, c7) ⟨_, kc, fun j hj => ?_, fun j hj hj2 => ?_, fun ne j hj => ?_⟩)))
      · by_cases ej : j = i
        · subst ej
          rw [cs_upS, e]
          split
          · rfl
          · unfold cs_P
            split <;> omega
        · rw [cs_upN p' (by omega)]
          exact s1 j (by omega)
      · rw [cs_upN p' (by omega)]
        exact s2 j (by omega) hj2
      · rw [cs_upN p' (by omega)]
        exact s3 ne j hj)
theorem cs_combine {post : Int32 → St2 → Prop} {x y w : Int32} {s t q m : Nat} (k : cs_K p a1 a2 a3 a4) (hx : x = nI t) (hy : y = nI s) (hw : w = nI m) (hs : s < 4) (ht : t < 4) (hm : m < 4) (hq : cs_S p s q)
    (h : ∀ f' b1 b2 b3 b4 b5 b6 b7 p', cs_K p' b1 b2 b3 b4 → cs_S p' t (if m ≤ 1 then q else 1024) → (t ≠ s → cs_S p' s q) → post (nI (if (if m ≤ 1 then q else 1024) / 64 < 16 then 1 else 0)) (f', b1, b2, b3, b4, b5, b6, b7)) :
    wpX_combine post (f, a1, a2, a3, a4, a5, a6, a7) x y y w := by
  subst hx
  subst hy
  subst hw
  unfold wpX_combine
  exact cs_bad0 rfl ht (br_t rfl (cs_bad0 rfl hs (br_t rfl (cs_bad0 rfl hs (br_t rfl (br_f (nI_pos (by omega)) (br_t (nI_le (b := 3) (by omega) (by decide)) (cs_c40 k hs ht hm hq h))))))))
theorem cs_combB {post : Int32 → St2 → Prop} {x y w : Int32} (hb : (x < 0 ∨ ¬ x < 4) ∨ (y < 0 ∨ ¬ y < 4))
    (h : post (-1) (f, a1, a2, a3, a4, a5, a6, a7)) : wpX_combine post (f, a1, a2, a3, a4, a5, a6, a7) x y y w := by
  unfold wpX_combine
  by_cases c : x < 0 ∨ ¬ x < 4
  · exact cs_bad1 c (br_f (by decide) h)
  · have g := hb.resolve_left c
    obtain ⟨t, _, e⟩ := nI_of (fun z => c (Or.inl z))
    have ht : t < 4 := by
      rcases Nat.lt_or_ge t 4 with z | z
      · exact z
      · exact absurd (show ¬ x < 4 from by rw [e]; exact nI_nlt (b := 4) z (by omega)) (fun z => c (Or.inr z))
    exact cs_bad0 e ht (br_t rfl (cs_bad1 g (br_f (by decide) h)))
theorem cs_combN {post : Int32 → St2 → Prop} {x y w : Int32} {s t : Nat} (hx : x = nI t) (hy : y = nI s) (hs : s < 4) (ht : t < 4) (hw : w < 0 ∨ ¬ w ≤ 3)
    (h : post (-2) (f, a1, a2, a3, a4, a5, a6, a7)) : wpX_combine post (f, a1, a2, a3, a4, a5, a6, a7) x y y w := by
  unfold wpX_combine
  exact cs_bad0 hx ht (br_t rfl (cs_bad0 hy hs (br_t rfl (cs_bad0 hy hs (br_t rfl (br_c (fun _ => h) (fun g => br_f (hw.resolve_left g) h)))))))
end
end
section
theorem cs_rng {x M : Int32} {n : Nat} (hM : M.toInt = n) (h0 : ¬ x < 0) (h : ¬ M < x) : ∃ j : Nat, j ≤ n ∧ x = nI j := nI_of2 hM h0 (Int32.not_lt.mp h)
theorem cs_b3x {x : Int32} (h : 3 < x) : ¬ x < 4 := by
  rw [Int32.lt_iff_toInt_lt] at h ⊢
  have e3 : (3 : Int32).toInt = 3 := by decide
  have e4 : (4 : Int32).toInt = 4 := by decide
  omega
theorem cs_b1023x {x : Int32} (h : 1023 < x) : ¬ x < 1024 := by
  rw [Int32.lt_iff_toInt_lt] at h ⊢
  have e3 : (1023 : Int32).toInt = 1023 := by decide
  have e4 : (1024 : Int32).toInt = 1024 := by decide
  omega
theorem cs_n7 {x : Int32} (h : x = 1) : ¬ x = 0 := by
  rw [h]
  decide
/-- the law's 'one', what its number is, and whether it is there: against the set that is asked -/
def cs_E (p : Nat → Nat) (x0 x7 x12 z : Int32) : Prop := (x7 = 0 ∧ (x0 < 0 ∨ ¬ x0 < 4) ∧ z = 0) ∨ (x7 = 1 ∧ ∃ s : Nat, s < 4 ∧ x0 = nI s ∧ ((z = 0 ∧ cs_S p s 1024) ∨ (z = 1 ∧ ∃ q : Nat, q < 1024 ∧ x12 = nI q ∧ cs_S p s q)))
/-- the law's 'two' -/
def cs_T (x2 x9 : Int32) : Prop := (x9 = 0 ∧ (x2 < 0 ∨ ¬ x2 < 4)) ∨ (x9 = 1 ∧ ∃ t : Nat, t < 4 ∧ x2 = nI t)
/-- behind the add: all four sets -/
def cs_A (p : Nat → Nat) (x0 x1 x7 x8 : Int32) : Prop := (x7 = 0 ∧ x8 = 0 ∧ (x0 < 0 ∨ ¬ x0 < 4) ∧ ∀ t, t < 4 → cs_S p t 1024) ∨ (x7 = 1 ∧ ∃ s : Nat, s < 4 ∧ x0 = nI s ∧ ((x8 = 0 ∧ ∀ t, t < 4 → cs_S p t 1024) ∨ (x8 = 1 ∧ ∃ q : Nat, q < 1024 ∧ x1 = nI q ∧ cs_S p s q ∧ ∀ t, t < 4 → t ≠ s → cs_S p t 1024)))
theorem cs_AE {p : Nat → Nat} {x0 x1 x7 x8 : Int32} (h : cs_A p x0 x1 x7 x8) : cs_E p x0 x7 x1 x8 := by
  rcases h with ⟨e7, e8, hb, _⟩ | ⟨e7, s, hs, e0, ⟨e8, h⟩ | ⟨e8, q, hq, e1, h, _⟩⟩
  · exact Or.inl ⟨e7, hb, e8⟩
  · exact Or.inr ⟨e7, s, hs, e0, Or.inl ⟨e8, h s hs⟩⟩
  · exact Or.inr ⟨e7, s, hs, e0, Or.inr ⟨e8, q, hq, e1, h⟩⟩
section
variable {post : Int32 → St0 → Prop} {mc ms kc ks : Nat} {x0 x1 x2 x3 x4 x5 x7 x8 x9 x11 x12 x13 z z0 z1 : Int32} {f : Int32} {a1 a2 a3 a4 : Nat → Int32} {a5 a6 : Nat → Int64} {a7 : Nat → Int32} {p : Nat → Nat}
theorem cs_hasB {po : Int32 → Prop} {x w : Int32} (hx : x < 0 ∨ ¬ x < 4) (h : po 0) : wpX_has po (f, a1, a2, a3, a4, a5, a6, a7) x w := by
  unfold wpX_has
  exact cs_bad1 hx (br_f (by decide) h)
theorem cs_selB {po : Int32 → Prop} {x w : Int32} (hx : x < 0 ∨ ¬ x < 4) (h : po (-1)) : wpX_select po (f, a1, a2, a3, a4, a5, a6, a7) x w := by
  unfold wpX_select
  exact cs_bad1 hx (br_f (by decide) h)
theorem cs_L374 (hp : post 1 ()) (k : cs_K p a1 a2 a3 a4) (E : cs_E p x0 x7 x12 z) : wL_lawOf_374 post mc ms x0 x7 x12 z kc ks f a1 a2 a3 a4 a5 a6 a7 := by
  unfold wL_lawOf_374
  rcases E with ⟨e7, hb, ez⟩ | ⟨e7, s, hs, e0, ⟨ez, h⟩ | ⟨ez, q, hq, e1, h⟩⟩
  · exact cs_hasB hb (br_t ez.symm (cs_selB hb (br_t e7 (br_t rfl hp))))
  · exact cs_hasN k e0 hs h (by omega) (br_t ez.symm (cs_selN (m := 0) k e0 rfl hs h (Or.inr ⟨rfl, by omega⟩) (br_f (cs_n7 e7) (br_t ez (br_t rfl hp)))))
  · exact cs_has k e0 e1 hs hq h (br_t (by rw [if_pos rfl, ez]; rfl) (cs_sel0 k e0 rfl hs h hq (br_f (cs_n7 e7) (br_f (cs_n7 ez) (br_t e1.symm hp)))))
theorem cs_L327k (ez : z1 = z0) (c : x13 = 0 ∨ x9 = 0 ∨ x5 < 0 ∨ 3 < x5) (h : wL_lawOf_374 post mc ms x0 x7 x12 x13 kc ks f a1 a2 a3 a4 a5 a6 a7) :
    wL_lawOf_327 post mc ms x0 x2 x5 x7 x9 x12 x13 z0 z1 kc ks f a1 a2 a3 a4 a5 a6 a7 := by
  unfold wL_lawOf_327
  exact br_t ez (br_c (fun _ => h) (fun g => br_c (fun _ => h) (fun g2 => br_c (fun _ => h) (fun g3 => br_t (((c.resolve_left g).resolve_left g2).resolve_left g3) h))))
theorem cs_L327f (ez : z1 = z0) (n13 : ¬ x13 = 0) (n9 : ¬ x9 = 0) (n0 : ¬ x5 < 0) (n3 : ¬ 3 < x5) (h0 : x2 = x0 → 1 < x5 → wL_lawOf_374 post mc ms x0 x7 x12 0 kc ks f a1 a2 a3 a4 a5 a6 a7)
    (h1 : ¬ (x2 = x0 ∧ 1 < x5) → wL_lawOf_374 post mc ms x0 x7 x12 1 kc ks f a1 a2 a3 a4 a5 a6 a7) :
    wL_lawOf_327 post mc ms x0 x2 x5 x7 x9 x12 x13 z0 z1 kc ks f a1 a2 a3 a4 a5 a6 a7 := by
  unfold wL_lawOf_327
  exact br_t ez (br_f n13 (br_f n9 (br_f n0 (br_f n3 (br_c (fun g => br_c (fun g2 => h0 g g2) (fun g2 => h1 (fun t => g2 t.2))) (fun g => h1 (fun t => g t.1)))))))
theorem cs_L266 (hp : post 1 ()) (k : cs_K p a1 a2 a3 a4) (E : cs_E p x0 x7 x12 x13) (T : cs_T x2 x9) (ez : z1 = z0) :
    wL_lawOf_266 post mc ms x0 x2 x5 x7 x9 x12 x13 z0 z1 kc ks f a1 a2 a3 a4 a5 a6 a7 := by
  unfold wL_lawOf_266
  refine br_t ez ?_
  have E' := E
  rcases E with ⟨e7, hb, e13⟩ | ⟨e7, s, hs, e0, E⟩
  · exact cs_combB (Or.inr hb) (br_t e7 (cs_L327k rfl (Or.inl e13) (cs_L374 hp k E')))
  · have n7 := cs_n7 e7
    rcases T with ⟨e9, hb⟩ | ⟨e9, t, ht, e2⟩
    · exact cs_combB (Or.inl hb) (br_f n7 (br_t e9 (cs_L327k rfl (Or.inr (Or.inl e9)) (cs_L374 hp k E'))))
    · have n9 := cs_n7 e9
      by_cases c5 : x5 < 0 ∨ ¬ x5 ≤ 3
      · have c' : x5 < 0 ∨ 3 < x5 := c5.imp id (fun g => Int32.not_le.mp g)
        exact cs_combN e2 e0 hs ht c5 (br_f n7 (br_f n9 (br_c (fun _ => cs_L327k rfl (Or.inr (Or.inr c')) (cs_L374 hp k E')) (fun g => br_f (c5.resolve_left g) (cs_L327k rfl (Or.inr (Or.inr c')) (cs_L374 hp k E'))))))
      · have n0 : ¬ x5 < 0 := fun g => c5 (Or.inl g)
        have l3 : x5 ≤ 3 := Decidable.of_not_not (fun g => c5 (Or.inr g))
        have n3 : ¬ 3 < x5 := Int32.not_lt.mpr l3
        obtain ⟨m, hm, e5⟩ := cs_rng (n := 3) (by decide) n0 n3
        rcases E with ⟨e13, hq⟩ | ⟨e13, q, hq1, e12, hq⟩
        · refine cs_combine k e2 e0 e5 hs ht (by omega) hq (fun f' b1 b2 b3 b4 b5 b6 b7 p' k' st ss => ?_)
          have i1 : (if m ≤ 1 then 1024 else 1024) = 1024 := by split <;> rfl
          rw [i1] at st ⊢
          refine br_f n7 (br_f n9 (br_f n0 (br_t l3 (br_t e13 (cs_L327k rfl (Or.inl e13) (cs_L374 hp k' (Or.inr ⟨e7, s, hs, e0, Or.inl ⟨e13, ?_⟩⟩)))))))
          by_cases e : t = s
          · rw [← e]
            exact st
          · exact ss e
        · have n13 := cs_n7 e13
          refine cs_combine k e2 e0 e5 hs ht (by omega) hq (fun f' b1 b2 b3 b4 b5 b6 b7 p' k' st ss => ?_)
          by_cases c1 : m ≤ 1
          · have n1 : ¬ 1 < x5 := by
              rw [e5, show (1 : Int32) = nI 1 from rfl, nI_ltI (by omega) (by omega)]
              omega
            rw [if_pos c1] at st ⊢
            rw [if_pos (by omega)]
            have Sq : cs_S p' s q := by
              by_cases e : t = s
              · rw [← e]
                exact st
              · exact ss e
            exact br_f n7 (br_f n9 (br_f n0 (br_t l3 (br_f n13 (br_f n1 (cs_L327f rfl n13 n9 n0 n3 (fun _ g => absurd g n1) (fun _ => cs_L374 hp k' (Or.inr ⟨e7, s, hs, e0, Or.inr ⟨rfl, q, hq1, e12, Sq⟩⟩))))))))
          · have n1 : 1 < x5 := by
              rw [e5, show (1 : Int32) = nI 1 from rfl, nI_ltI (by omega) (by omega)]
              omega
            rw [if_neg c1] at st ⊢
            rw [if_neg (by omega)]
            refine br_f n7 (br_f n9 (br_f n0 (br_t l3 (br_f n13 (br_t n1 (cs_L327f rfl n13 n9 n0 n3 (fun g _ => ?_) (fun g => ?_)))))))
            · rw [e2, e0, nI_eq (by omega) (by omega)] at g
              rw [g] at st
              exact cs_L374 hp k' (Or.inr ⟨e7, s, hs, e0, Or.inl ⟨rfl, st⟩⟩)
            · have e : t ≠ s := fun e => g ⟨by rw [e2, e0, e], n1⟩
              exact cs_L374 hp k' (Or.inr ⟨e7, s, hs, e0, Or.inr ⟨rfl, q, hq1, e12, ss e⟩⟩)
end
end
section
section
variable {post : Int32 → St0 → Prop} {mc ms kc ks : Nat} {x0 x1 x2 x3 x4 x5 x7 x8 x9 x11 x12 x13 z z0 z1 : Int32} {f : Int32} {a1 a2 a3 a4 : Nat → Int32} {a5 a6 : Nat → Int64} {a7 : Nat → Int32} {p : Nat → Nat}
/-- the shift is refused -/
theorem cs_L227n (hp : post 1 ()) (k : cs_K p a1 a2 a3 a4) (E : cs_E p x0 x7 x1 z) (T : cs_T x2 x9) (c : x4 < -1023 ∨ ¬ x4 ≤ 1023) :
    wL_lawOf_227 post mc ms x0 x2 x4 x5 x7 x9 0 x1 z kc ks f a1 a2 a3 a4 a5 a6 a7 := by
  unfold wL_lawOf_227
  have E' := E
  rcases E with ⟨e7, hb, _⟩ | ⟨e7, s, hs, e0, _⟩
  · exact cs_shiftB hb (br_t e7 (cs_L266 hp k E' T rfl))
  · exact cs_shiftN e0 hs c (br_f (cs_n7 e7) (br_t rfl (cs_L266 hp k E' T rfl)))
/-- the shift is done -/
theorem cs_L227s {s q q' : Nat} (hp : post 1 ()) (k : cs_K p a1 a2 a3 a4) (T : cs_T x2 x9) (e7 : x7 = 1) (e0 : x0 = nI s) (hs : s < 4) (hq : cs_S p s q) (hq1 : q ≤ 1024) (hy1 : ¬ x4 < -1023) (hy2 : x4 ≤ 1023)
    (hq' : (q < 1024 ∧ (q' : Int) = q + x4.toInt ∧ q' < 1024) ∨ (q' = 1024 ∧ (q = 1024 ∨ (q : Int) + x4.toInt < 0 ∨ 1024 ≤ (q : Int) + x4.toInt)))
    (hz : (z = 0 ∧ q' = 1024) ∨ (z = 1 ∧ q' < 1024 ∧ x12 = nI q')) :
    wL_lawOf_227 post mc ms x0 x2 x4 x5 x7 x9 1 x12 z kc ks f a1 a2 a3 a4 a5 a6 a7 := by
  unfold wL_lawOf_227
  refine cs_shift k e0 hs hq hq1 hy1 hy2 hq' (fun b1 b2 b3 b4 b6 p' k' s' => br_f (cs_n7 e7) (br_f (by decide) ?_))
  rcases hz with ⟨ez, e⟩ | ⟨ez, h1, e⟩
  · subst e
    exact br_t ez (cs_L266 hp k' (Or.inr ⟨e7, s, hs, e0, Or.inl ⟨ez, s'⟩⟩) T rfl)
  · rw [if_pos (by omega)]
    exact br_f (cs_n7 ez) (cs_L266 hp k' (Or.inr ⟨e7, s, hs, e0, Or.inr ⟨ez, q', h1, e, s'⟩⟩) T rfl)
theorem cs_addI {q : Nat} {y : Int32} (hq : q < 1024) (h1 : -1023 ≤ y.toInt) (h2 : y.toInt ≤ 1023) : (nI q + y).toInt = q + y.toInt := by
  rw [Int32.toInt_add, nI_toInt (by omega)]
  exact Int.bmod_eq_of_le (by omega) (by omega)
theorem cs_L161 (hp : post 1 ()) (k : cs_K p a1 a2 a3 a4) (E : cs_E p x0 x7 x1 x8) (T : cs_T x2 x9) (ez : z1 = z0) :
    wL_lawOf_161 post mc ms x0 x1 x2 x4 x5 x7 x8 x9 z0 z1 kc ks f a1 a2 a3 a4 a5 a6 a7 := by
  have Hno : (x4 < -1023 ∨ ¬ x4 ≤ 1023) → wL_lawOf_186 post mc ms x0 x1 x2 x4 x5 x7 x8 x9 kc ks f a1 a2 a3 a4 a5 a6 a7 := fun c => by
    unfold wL_lawOf_186 wL_lawOf_187
    refine br_t rfl ?_
    unfold wL_lawOf_202
    refine br_c (fun e8 => ?_) (fun n8 => ?_)
    · rw [e8] at E
      exact cs_L227n hp k E T c
    · rcases E with ⟨_, _, e8⟩ | ⟨e7, s, hs, e0, ⟨e8, _⟩ | ⟨e8, q, hq, e1, h⟩⟩
      · exact absurd e8 n8
      · exact absurd e8 n8
      · have g0 : ¬ x1 < 0 := by
          rw [e1]
          exact nI_pos (by omega)
        have g1 : ¬ 1023 < x1 := by
          rw [e1]
          exact nI_nlt (a := 1023) (by omega) (by decide)
        exact br_f g0 (br_f g1 (cs_L227n hp k (Or.inr ⟨e7, s, hs, e0, Or.inr ⟨rfl, q, hq, e1, h⟩⟩) T c))
  unfold wL_lawOf_161
  refine br_t ez (br_c (fun c => Hno (Or.inl c)) (fun c1 => br_c (fun c => Hno (Or.inr (Int32.not_le.mpr c))) (fun c2 => ?_)))
  have l2 : x4 ≤ 1023 := Int32.not_lt.mp c2
  have i1 := cs_lo c1
  have i2 := cs_hi l2
  unfold wL_lawOf_187
  refine br_f (by decide) ?_
  unfold wL_lawOf_202
  rcases E with ⟨e7, hb, e8⟩ | ⟨e7, s, hs, e0, ⟨e8, h⟩ | ⟨e8, q, hq, e1, h⟩⟩
  · refine br_t e8 ?_
    unfold wL_lawOf_226 wL_lawOf_227
    exact cs_shiftB hb (br_t e7 (cs_L266 hp k (Or.inl ⟨e7, hb, rfl⟩) T rfl))
  · exact br_t e8 (cs_L227s (q' := 1024) hp k T e7 e0 hs h (by omega) c1 l2 (Or.inr ⟨rfl, Or.inl rfl⟩) (Or.inl ⟨rfl, rfl⟩))
  · have ea : (x1 + x4).toInt = q + x4.toInt := by
      rw [e1]
      exact cs_addI hq i1 i2
    have z0 : (0 : Int32).toInt = 0 := by decide
    have z1 : (1023 : Int32).toInt = 1023 := by decide
    refine br_f (cs_n7 e8) (br_c (fun g => ?_) (fun g => br_c (fun g2 => ?_) (fun g2 => ?_)))
    · rw [Int32.lt_iff_toInt_lt] at g
      exact cs_L227s (q' := 1024) hp k T e7 e0 hs h (by omega) c1 l2 (Or.inr ⟨rfl, Or.inr (Or.inl (by omega))⟩) (Or.inl ⟨rfl, rfl⟩)
    · rw [Int32.lt_iff_toInt_lt] at g2
      exact cs_L227s (q' := 1024) hp k T e7 e0 hs h (by omega) c1 l2 (Or.inr ⟨rfl, Or.inr (Or.inr (by omega))⟩) (Or.inl ⟨rfl, rfl⟩)
    · obtain ⟨m, hm, em⟩ := cs_rng (n := 1023) z1 g g2
      have et : (x1 + x4).toInt = m := by
        rw [em]
        exact nI_toInt (by omega)
      exact cs_L227s (q' := m) hp k T e7 e0 hs h (by omega) c1 l2 (Or.inl ⟨hq, by omega, by omega⟩) (Or.inr ⟨rfl, by omega, em⟩)
theorem cs_nextB {po : Int32 → Prop} {x w : Int32} (hx : x < 0 ∨ ¬ x < 4) (h : po (-1)) : wpX_next po (f, a1, a2, a3, a4, a5, a6, a7) x w := by
  unfold wpX_next
  exact cs_bad1 hx (br_f (by decide) h)
theorem cs_nextN {po : Int32 → Prop} {x w : Int32} {t : Nat} (hx : x = nI t) (ht : t < 4) (hw : w < 0 ∨ ¬ w < 1024) (h : po (-2)) : wpX_next po (f, a1, a2, a3, a4, a5, a6, a7) x w := by
  unfold wpX_next
  exact cs_bad0 hx ht (br_t rfl (cs_num1 hw (br_f (by decide) h)))
theorem cs_L111 (hp : post 1 ()) (k : cs_K p a1 a2 a3 a4) (E : cs_E p x0 x7 x1 x8) (T : cs_T x2 x9)
    (N : ∀ t, t < 4 → x2 = nI t → (z0 = 0 ∧ cs_S p t 1024) ∨ (z0 = 1 ∧ ∃ q : Nat, q < 1024 ∧ x1 = nI q ∧ cs_S p t q)) :
    wL_lawOf_111 post mc ms x0 x1 x2 x3 x4 x5 x7 x8 x9 z0 kc ks f a1 a2 a3 a4 a5 a6 a7 := by
  unfold wL_lawOf_111
  have T' := T
  rcases T with ⟨e9, hb⟩ | ⟨e9, t, ht, e2⟩
  · exact cs_nextB hb (br_t e9 (cs_L161 hp k E T' rfl))
  · have n9 := cs_n7 e9
    by_cases c0 : x3 < 0
    · exact cs_nextN e2 ht (Or.inl c0) (br_f n9 (br_t c0 (cs_L161 hp k E T' rfl)))
    · by_cases c1 : 1023 < x3
      · exact cs_nextN e2 ht (Or.inr (cs_b1023x c1)) (br_f n9 (br_f c0 (br_f (Int32.not_le.mpr c1) (cs_L161 hp k E T' rfl))))
      · obtain ⟨y, hy, e3⟩ := cs_rng (n := 1023) (by decide) c0 c1
        have l1 : x3 ≤ 1023 := Int32.not_lt.mp c1
        rcases N t ht e2 with ⟨ez, h⟩ | ⟨ez, q, hq, e1, h⟩
        · exact cs_next k e2 e3 ht (by omega) h (fun g => absurd g (by omega)) (fun _ => br_f n9 (br_f c0 (br_t l1 (br_t ez (cs_L161 hp k E T' rfl)))))
        · refine cs_next k e2 e3 ht (by omega) h (fun _ g => br_f n9 (br_f c0 (br_t l1 (br_f (cs_n7 ez) (br_f ?_ (cs_L161 hp k E T' e1.symm)))))) (fun g => br_f n9 (br_f c0 (br_t l1 (br_f (cs_n7 ez) (br_t ?_ (cs_L161 hp k E T' rfl))))))
          · rw [e1, e3]
            exact nI_nlt g (by omega)
          · rw [e1, e3]
            exact nI_lt (by omega) (by omega)
theorem cs_L94 (hp : post 1 ()) (k : cs_K p a1 a2 a3 a4) (A : cs_A p x0 x1 x7 x8) (T : cs_T x2 z0) :
    wL_lawOf_94 post mc ms x0 x1 x2 x3 x4 x5 x7 x8 z0 kc ks f a1 a2 a3 a4 a5 a6 a7 := by
  have E := cs_AE A
  unfold wL_lawOf_94
  rcases A with ⟨_, e8, _, h⟩ | ⟨_, s, hs, e0, ⟨e8, h⟩ | ⟨e8, q, hq, e1, h, ho⟩⟩
  · exact br_t e8 (cs_L111 hp k E T (fun t ht _ => Or.inl ⟨rfl, h t ht⟩))
  · exact br_t e8 (cs_L111 hp k E T (fun t ht _ => Or.inl ⟨rfl, h t ht⟩))
  · refine br_f (cs_n7 e8) (br_c (fun g => cs_L111 hp k E T (fun t ht e2 => Or.inr ⟨rfl, q, hq, e1, ?_⟩)) (fun g => cs_L111 hp k E T (fun t ht e2 => Or.inl ⟨rfl, ho t ht (fun e => g ?_)⟩)))
    · rw [e2, e0, nI_eq (by omega) (by omega)] at g
      rw [g]
      exact h
    · rw [e2, e0, e]
theorem cs_L75 (hp : post 1 ()) (k : cs_K p a1 a2 a3 a4) (A : cs_A p x0 x1 x7 x8) (ez : z1 = z0) :
    wL_lawOf_75 post mc ms x0 x1 x2 x3 x4 x5 x7 x8 z0 z1 kc ks f a1 a2 a3 a4 a5 a6 a7 := by
  unfold wL_lawOf_75
  refine br_t ez (br_c (fun c => cs_L94 hp k A (Or.inl ⟨rfl, Or.inl c⟩)) (fun c0 => br_c (fun c => cs_L94 hp k A (Or.inl ⟨rfl, Or.inr (cs_b3x c)⟩)) (fun c1 => ?_)))
  obtain ⟨t, ht, e⟩ := cs_rng (n := 3) (by decide) c0 c1
  exact cs_L94 hp k A (Or.inr ⟨rfl, t, by omega, e⟩)
theorem cs_S64 (t : Nat) : cs_S (fun _ => 64) t 1024 := by
  intro j hj
  unfold cs_P
  rw [if_neg (by omega)]
theorem cs_L46 (hp : post 1 ()) (k : cs_K (fun _ => 64) a1 a2 a3 a4)
    (H : (x7 = 0 ∧ (x0 < 0 ∨ ¬ x0 < 4) ∧ z0 = 0) ∨ (x7 = 1 ∧ ∃ s : Nat, s < 4 ∧ x0 = nI s ∧ ((z0 = 0 ∧ (x1 < 0 ∨ ¬ x1 < 1024)) ∨ (z0 = 1 ∧ ∃ q : Nat, q < 1024 ∧ x1 = nI q)))) :
    wL_lawOf_46 post mc ms x0 x1 x2 x3 x4 x5 x7 z0 kc ks f a1 a2 a3 a4 a5 a6 a7 := by
  unfold wL_lawOf_46
  rcases H with ⟨e7, hb, ez⟩ | ⟨e7, s, hs, e0, ⟨ez, hb⟩ | ⟨ez, q, hq, e1⟩⟩
  · exact cs_addB hb (br_t e7 (cs_L75 hp k (Or.inl ⟨e7, ez, hb, fun t _ => cs_S64 t⟩) rfl))
  · exact cs_addN e0 hs hb (br_f (cs_n7 e7) (br_t ez (cs_L75 hp k (Or.inr ⟨e7, s, hs, e0, Or.inl ⟨ez, fun t _ => cs_S64 t⟩⟩) rfl)))
  · refine cs_add1 k e0 e1 hs hq rfl (fun b2 b3 b4 k' => br_f (cs_n7 e7) (br_f (cs_n7 ez) (cs_L75 hp k' (Or.inr ⟨e7, s, hs, e0, Or.inr ⟨ez, q, hq, e1, fun j hj => ?_, fun t ht ne j hj => ?_⟩⟩) rfl)))
    · unfold cs_up cs_P
      dsimp only
      split <;> split <;> omega
    · unfold cs_up cs_P
      dsimp only
      rw [if_neg (by omega), if_neg (by omega)]
theorem cs_L23 (hp : post 1 ()) (k : cs_K (fun _ => 64) a1 a2 a3 a4) (H : (z0 = 0 ∧ (x0 < 0 ∨ ¬ x0 < 4)) ∨ (z0 = 1 ∧ ∃ s : Nat, s < 4 ∧ x0 = nI s)) :
    wL_lawOf_23 post mc ms x0 x1 x2 x3 x4 x5 z0 kc ks f a1 a2 a3 a4 a5 a6 a7 := by
  unfold wL_lawOf_23
  rcases H with ⟨ez, hb⟩ | ⟨ez, s, hs, e0⟩
  · exact br_t ez (cs_L46 hp k (Or.inl ⟨ez, hb, rfl⟩))
  · refine br_f (cs_n7 ez) (br_c (fun c => cs_L46 hp k (Or.inr ⟨ez, s, hs, e0, Or.inl ⟨rfl, Or.inl c⟩⟩)) (fun c0 => br_c (fun c => cs_L46 hp k (Or.inr ⟨ez, s, hs, e0, Or.inl ⟨rfl, Or.inr (cs_b1023x c)⟩⟩)) (fun c1 => ?_)))
    obtain ⟨q, hq, e⟩ := cs_rng (n := 1023) (by decide) c0 c1
    exact cs_L46 hp k (Or.inr ⟨ez, s, hs, e0, Or.inr ⟨rfl, q, by omega, e⟩⟩)
end
theorem cs_K0 : cs_K (fun _ => 64) (upd (fun _ => 0) 0 0) (fun _ => 0) (fun _ => 0) (fun _ => 0) := by
  intro c hc
  refine ⟨?_, rfl, rfl, fun (g : 64 < 64) => absurd g (by omega)⟩
  by_cases e : c = 0
  · rw [e, pk_us]
  · rw [pk_un e]
theorem cs_lawOf {post : Int32 → St0 → Prop} {u : St0} {p0 p1 p2 p3 p4 p5 : Int32} (hp : post 1 ()) : wpL_lawOf post 456 7296 u p0 p1 p2 p3 p4 p5 := by
  unfold wpL_lawOf
  refine ⟨by omega, by omega, 455, 7288, by omega, by omega, ?_⟩
  unfold wpX_init
  refine ⟨by omega, by omega, by omega, by omega, by omega, by omega, by omega, by omega, by omega, by omega, by omega, by omega, by omega, by omega, nm_e ?_⟩
  refine br_c (fun c => cs_L23 hp cs_K0 (Or.inl ⟨rfl, Or.inl c⟩)) (fun c0 => br_c (fun c => cs_L23 hp cs_K0 (Or.inl ⟨rfl, Or.inr (cs_b3x c)⟩)) (fun c1 => ?_))
  obtain ⟨s, hs, e⟩ := cs_rng (n := 3) (by decide) c0 c1
  exact cs_L23 hp cs_K0 (Or.inr ⟨rfl, s, by omega, e⟩)
theorem cs_cell {post : Int32 → Prop} {L : Nat} {xs : Nat → Int32} {u : St0} {x : Int32} (hL : L ≤ 6) (j : Nat) (hj : j < 6) (hx : x = nI j) (h : ∀ r, post r) : wpL_cellAt post L xs u x := by
  unfold wpL_cellAt
  exact pk_le L j (fun _ => h _) (fun g => ⟨pk_in j L g hx, h _⟩) rfl hx
theorem i_vc (xs : Nat → Int32) (L : Nat) (hL : L ≤ 6) : wpL_law (fun r => r = 1) L xs := by
  unfold wpL_law
  exact cs_cell hL 0 (by omega) rfl (fun _ => cs_cell hL 1 (by omega) rfl (fun _ => cs_cell hL 2 (by omega) rfl (fun _ => cs_cell hL 3 (by omega) rfl (fun _ => cs_cell hL 4 (by omega) rfl (fun _ => cs_cell hL 5 (by omega) rfl (fun _ => ⟨456, 7296, by omega, by omega, cs_lawOf rfl⟩))))))
end
