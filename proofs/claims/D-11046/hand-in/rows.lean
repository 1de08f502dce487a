section
/-- the interval a comparison becomes: its low end -/
def sy_lo (h v : Int32) : Int32 := if h = 1 then v else if h = 2 then v else if h = 4 then -2147483648 else if h = 6 then v else if h = 3 then (if v = -2147483648 then 2147483647 else -2147483648) else if h = 5 then (if v = 2147483647 then 2147483647 else v + 1) else -2147483648
/-- its high end -/
def sy_hi (h v : Int32) : Int32 := if h = 1 then v else if h = 2 then v else if h = 4 then v else if h = 6 then 2147483647 else if h = 3 then (if v = -2147483648 then -2147483648 else v - 1) else if h = 5 then (if v = 2147483647 then -2147483648 else 2147483647) else 2147483647
/-- whether the argument must be outside -/
def sy_ou (h : Int32) : Int32 := if h = 2 then 1 else 0
/-- the law's comparison -/
def sy_cmp (h a v : Int32) : Int32 := if h = 1 then (if a = v then 1 else 0) else if h = 2 then (if a = v then 0 else 1) else if h = 3 then (if v ≤ a then 0 else 1) else if h = 4 then (if v < a then 0 else 1) else if h = 5 then (if a ≤ v then 0 else 1) else if h = 0 then 1 else (if a < v then 0 else 1)
def sy_and (m0 m1 : Int32) : Int32 := if m0 = 0 then 0 else if m1 = 0 then 0 else 1
theorem sy_and01 (m0 m1 : Int32) : sy_and m0 m1 = 0 ∨ sy_and m0 m1 = 1 := by
  unfold sy_and
  split
  · exact Or.inl rfl
  · split
    · exact Or.inl rfl
    · exact Or.inr rfl
theorem sy_cmp01 (h a v : Int32) : sy_cmp h a v = 0 ∨ sy_cmp h a v = 1 := by
  unfold sy_cmp
  repeat' split
  all_goals first | exact Or.inl rfl | exact Or.inr rfl
theorem sy_and1r (m : Int32) (h : m = 0 ∨ m = 1) : sy_and m 1 = m := by
  rcases h with rfl | rfl <;> decide
theorem sy_and1l (m : Int32) (h : m = 0 ∨ m = 1) : sy_and 1 m = m := by
  rcases h with rfl | rfl <;> decide
theorem sy_min (a : Int32) : -2147483648 ≤ a.toInt := by
  have := Int32.le_toInt a
  omega
theorem sy_max (a : Int32) : a.toInt ≤ 2147483647 := by
  have := Int32.toInt_lt a
  omega
theorem sy_add1 (v : Int32) (h : ¬ v = 2147483647) : (v + 1).toInt = v.toInt + 1 := by
  have h1 := sy_min v
  have h2 := sy_max v
  have h3 : ¬ v.toInt = 2147483647 := fun e => h (Int32.toInt_inj.mp (by rw [e]; rfl))
  rw [Int32.toInt_add, show (1 : Int32).toInt = 1 from rfl, Int.bmod_def]
  omega
theorem sy_sub1 (v : Int32) (h : ¬ v = -2147483648) : (v - 1).toInt = v.toInt - 1 := by
  have h1 := sy_min v
  have h2 := sy_max v
  have h3 : ¬ v.toInt = -2147483648 := fun e => h (Int32.toInt_inj.mp (by rw [e]; rfl))
  rw [Int32.toInt_sub, show (1 : Int32).toInt = 1 from rfl, Int.bmod_def]
  omega
/-- inside the interval -/
def sy_ins (h a v : Int32) : Prop := ¬ a < sy_lo h v ∧ ¬ sy_hi h v < a
theorem sy_ins1 (a v : Int32) : sy_ins 1 a v ↔ a = v := by
  show (¬ a < v ∧ ¬ v < a) ↔ a = v
  rw [Int32.lt_iff_toInt_lt, Int32.lt_iff_toInt_lt, ← Int32.toInt_inj]
  omega
theorem sy_ins2 (a v : Int32) : sy_ins 2 a v ↔ a = v := by
  show (¬ a < v ∧ ¬ v < a) ↔ a = v
  rw [Int32.lt_iff_toInt_lt, Int32.lt_iff_toInt_lt, ← Int32.toInt_inj]
  omega
theorem sy_ins4 (a v : Int32) : sy_ins 4 a v ↔ ¬ v < a := by
  show (¬ a < -2147483648 ∧ ¬ v < a) ↔ ¬ v < a
  rw [Int32.lt_iff_toInt_lt, Int32.lt_iff_toInt_lt, show (-2147483648 : Int32).toInt = -2147483648 from rfl]
  have := sy_min a
  omega
theorem sy_ins6 (a v : Int32) : sy_ins 6 a v ↔ ¬ a < v := by
  show (¬ a < v ∧ ¬ 2147483647 < a) ↔ ¬ a < v
  rw [Int32.lt_iff_toInt_lt, Int32.lt_iff_toInt_lt, show (2147483647 : Int32).toInt = 2147483647 from rfl]
  have := sy_max a
  omega
theorem sy_ins3 (a v : Int32) : sy_ins 3 a v ↔ ¬ v ≤ a := by
  show (¬ a < (if v = -2147483648 then 2147483647 else -2147483648) ∧ ¬ (if v = -2147483648 then -2147483648 else v - 1) < a) ↔ ¬ v ≤ a
  have h1 := sy_min a
  have h2 := sy_max a
  by_cases e : v = -2147483648
  · rw [if_pos e, if_pos e, e, Int32.lt_iff_toInt_lt, Int32.lt_iff_toInt_lt, Int32.le_iff_toInt_le, show (-2147483648 : Int32).toInt = -2147483648 from rfl, show (2147483647 : Int32).toInt = 2147483647 from rfl]
    omega
  · rw [if_neg e, if_neg e, Int32.lt_iff_toInt_lt, Int32.lt_iff_toInt_lt, Int32.le_iff_toInt_le, sy_sub1 v e, show (-2147483648 : Int32).toInt = -2147483648 from rfl]
    omega
theorem sy_ins5 (a v : Int32) : sy_ins 5 a v ↔ ¬ a ≤ v := by
  show (¬ a < (if v = 2147483647 then 2147483647 else v + 1) ∧ ¬ (if v = 2147483647 then -2147483648 else 2147483647) < a) ↔ ¬ a ≤ v
  have h1 := sy_min a
  have h2 := sy_max a
  by_cases e : v = 2147483647
  · rw [if_pos e, if_pos e, e, Int32.lt_iff_toInt_lt, Int32.lt_iff_toInt_lt, Int32.le_iff_toInt_le, show (-2147483648 : Int32).toInt = -2147483648 from rfl, show (2147483647 : Int32).toInt = 2147483647 from rfl]
    omega
  · rw [if_neg e, if_neg e, Int32.lt_iff_toInt_lt, Int32.lt_iff_toInt_lt, Int32.le_iff_toInt_le, sy_add1 v e, show (2147483647 : Int32).toInt = 2147483647 from rfl]
    omega
/-- the seven kinds -/
theorem sy_kinds (x : Int32) (h0 : ¬ x &&& 7 = 0) (h7 : ¬ x &&& 7 = 7) : x &&& 7 = 1 ∨ x &&& 7 = 2 ∨ x &&& 7 = 3 ∨ x &&& 7 = 4 ∨ x &&& 7 = 5 ∨ x &&& 7 = 6 := by
  obtain ⟨j, hj, e⟩ := pk_andE x (m := 7) 3 (by decide)
  rw [e] at h0 h7 ⊢
  have hj' : j < 8 := hj
  match j, hj' with
  | 0, _ => exact absurd rfl h0
  | 1, _ => decide
  | 2, _ => decide
  | 3, _ => decide
  | 4, _ => decide
  | 5, _ => decide
  | 6, _ => decide
  | 7, _ => exact absurd rfl h7
  | n + 8, z => exact absurd z (by omega)
theorem sy_pin (h a v : Int32) (hh : h = 1 ∨ h = 2 ∨ h = 3 ∨ h = 4 ∨ h = 5 ∨ h = 6) (i : sy_ins h a v) : sy_cmp h a v = if (1 : Int32) = sy_ou h then 0 else 1 := by
  rcases hh with rfl | rfl | rfl | rfl | rfl | rfl
  · show (if a = v then (1 : Int32) else 0) = 1
    rw [if_pos ((sy_ins1 a v).mp i)]
  · show (if a = v then (0 : Int32) else 1) = 0
    rw [if_pos ((sy_ins2 a v).mp i)]
  · show (if v ≤ a then (0 : Int32) else 1) = 1
    rw [if_neg ((sy_ins3 a v).mp i)]
  · show (if v < a then (0 : Int32) else 1) = 1
    rw [if_neg ((sy_ins4 a v).mp i)]
  · show (if a ≤ v then (0 : Int32) else 1) = 1
    rw [if_neg ((sy_ins5 a v).mp i)]
  · show (if a < v then (0 : Int32) else 1) = 1
    rw [if_neg ((sy_ins6 a v).mp i)]
theorem sy_pout (h a v : Int32) (hh : h = 1 ∨ h = 2 ∨ h = 3 ∨ h = 4 ∨ h = 5 ∨ h = 6) (i : ¬ sy_ins h a v) : sy_cmp h a v = if (0 : Int32) = sy_ou h then 0 else 1 := by
  rcases hh with rfl | rfl | rfl | rfl | rfl | rfl
  · show (if a = v then (1 : Int32) else 0) = 0
    rw [if_neg (fun z => i ((sy_ins1 a v).mpr z))]
  · show (if a = v then (0 : Int32) else 1) = 1
    rw [if_neg (fun z => i ((sy_ins2 a v).mpr z))]
  · show (if v ≤ a then (0 : Int32) else 1) = 0
    rw [if_pos (Decidable.of_not_not (fun z => i ((sy_ins3 a v).mpr z)))]
  · show (if v < a then (0 : Int32) else 1) = 0
    rw [if_pos (Decidable.of_not_not (fun z => i ((sy_ins4 a v).mpr z)))]
  · show (if a ≤ v then (0 : Int32) else 1) = 0
    rw [if_pos (Decidable.of_not_not (fun z => i ((sy_ins5 a v).mpr z)))]
  · show (if a < v then (0 : Int32) else 1) = 0
    rw [if_pos (Decidable.of_not_not (fun z => i ((sy_ins6 a v).mpr z)))]
/-- a 'what' that the class takes: its slot of the argument -/
theorem sy_sh : ∀ j, j < 16 → ((nI j &&& 8 = 0 → nI j >>> ((3 : Int32) &&& 31) = 0) ∧ (¬ nI j &&& 8 = 0 → nI j >>> ((3 : Int32) &&& 31) = 1)) := by decide +kernel
theorem sy_what {x : Int32} (h0 : ¬ x < 0) (h15 : ¬ 15 < x) : (x &&& 8 = 0 → x >>> ((3 : Int32) &&& 31) = 0) ∧ (¬ x &&& 8 = 0 → x >>> ((3 : Int32) &&& 31) = 1) := by
  have h : x ≤ 15 := by
    rw [Int32.lt_iff_toInt_lt] at h15
    rw [Int32.le_iff_toInt_le]
    omega
  obtain ⟨j, hj, e⟩ := nI_of2 (M := 15) (n := 15) rfl h0 h
  rw [e]
  exact sy_sh j (by omega)
theorem sy_sh2 {x : Int32} (h0 : ¬ x < 0) (h15 : ¬ 15 < x) : vp_in (x >>> ((3 : Int32) &&& 31)) 2 := by
  by_cases e : x &&& 8 = 0
  · rw [(sy_what h0 h15).1 e]
    exact pk_in 0 2 (by omega)
  · rw [(sy_what h0 h15).2 e]
    exact pk_in 1 2 (by omega)
end
section
theorem sy_compares {post : Int32 → Prop} {h a v : Int32} (H : post (sy_cmp h a v)) : wpL_compares post () h a v := by
  unfold sy_cmp at H
  refine br_c (fun e1 => ?_) (fun e1 => br_c (fun e2 => ?_) (fun e2 => br_c (fun e3 => ?_) (fun e3 => br_c (fun e4 => ?_) (fun e4 => br_c (fun e5 => ?_) (fun e5 => br_c (fun e0 => ?_) (fun e0 => ?_))))))
  · rw [if_pos e1] at H
    exact br_c (fun z => by rw [if_pos z] at H; exact H) (fun z => by rw [if_neg z] at H; exact H)
  · rw [if_neg e1, if_pos e2] at H
    exact br_c (fun z => by rw [if_pos z] at H; exact H) (fun z => by rw [if_neg z] at H; exact H)
  · rw [if_neg e1, if_neg e2, if_pos e3] at H
    exact br_c (fun z => by rw [if_pos z] at H; exact H) (fun z => by rw [if_neg z] at H; exact H)
  · rw [if_neg e1, if_neg e2, if_neg e3, if_pos e4] at H
    exact br_c (fun z => by rw [if_pos z] at H; exact H) (fun z => by rw [if_neg z] at H; exact H)
  · rw [if_neg e1, if_neg e2, if_neg e3, if_neg e4, if_pos e5] at H
    exact br_c (fun z => by rw [if_pos z] at H; exact H) (fun z => by rw [if_neg z] at H; exact H)
  · rw [if_neg e1, if_neg e2, if_neg e3, if_neg e4, if_neg e5, if_pos e0] at H
    exact H
  · rw [if_neg e1, if_neg e2, if_neg e3, if_neg e4, if_neg e5, if_neg e0] at H
    exact br_c (fun z => by rw [if_pos z] at H; exact H) (fun z => by rw [if_neg z] at H; exact H)
theorem sy_m60 {post : Int32 → Prop} {z0 : Int32} {f1 f2 f3 f4 f5 f6 f7 f8 : Int32} {a1 a2 a3 a4 a5 a6 a7 a8 a9 a10 a11 a12 a13 a14 a15 a16 a17 a18 a19 a20 a21 a22 a23 : Nat → Int32} (k : Nat) (hk : k < 24) (H : post (if z0 = a9 k then 0 else 1)) : wX_meets_60 post (nI k) z0 f1 f2 f3 f4 f5 f6 f7 f8 a1 a2 a3 a4 a5 a6 a7 a8 a9 a10 a11 a12 a13 a14 a15 a16 a17 a18 a19 a20 a21 a22 a23 := by
  unfold wX_meets_60
  rw [nI_clamp (show k < 2 ^ 31 by omega)]
  exact ⟨pk_in k 24 hk, br_c (fun z => by rw [if_pos z] at H; exact H) (fun z => by rw [if_neg z] at H; exact H)⟩
theorem sy_meets {post : Int32 → Prop} {f1 f2 f3 f4 f5 f6 f7 f8 : Int32} {a1 a2 a3 a4 a5 a6 a7 a8 a9 a10 a11 a12 a13 a14 a15 a16 a17 a18 a19 a20 a21 a22 a23 : Nat → Int32} (k : Nat) (hk : k < 24) (hs : vp_in ((a3 k) >>> ((3 : Int32) &&& 31)) 2) (h7 : ¬ a3 k &&& 7 = 7)
    (e7 : a7 k = sy_lo (a3 k &&& 7) (a5 k)) (e8 : a8 k = sy_hi (a3 k &&& 7) (a5 k)) (e9 : a9 k = sy_ou (a3 k &&& 7))
    (H : post (sy_cmp (a3 k &&& 7) ((a20 ((a3 k) >>> ((3 : Int32) &&& 31)).toNatClampNeg) &&& (a4 k)) (a5 k))) : wpX_meets post (f1, f2, f3, f4, f5, f6, f7, f8, a1, a2, a3, a4, a5, a6, a7, a8, a9, a10, a11, a12, a13, a14, a15, a16, a17, a18, a19, a20, a21, a22, a23) (nI k) := by
  unfold wpX_meets
  dsimp only
  rw [nI_clamp (show k < 2 ^ 31 by omega)]
  refine ⟨pk_in k 26 (by omega), hs, pk_in k 26 (by omega), nm_e ⟨pk_in k 26 (by omega), ?_⟩⟩
  refine br_c (fun e => ?_) (fun e => ⟨pk_in k 24 hk, br_c (fun l => ?_) (fun l => ⟨pk_in k 24 hk, br_c (fun g => ?_) (fun g => ?_)⟩)⟩)
  · rw [e] at H
    exact H
  · unfold wX_meets_59
    refine sy_m60 k hk ?_
    rw [e9, ← sy_pout (a3 k &&& 7) _ (a5 k) (sy_kinds _ e h7) (fun i => i.1 (by rw [← e7]; exact l))]
    exact H
  · unfold wX_meets_59
    refine sy_m60 k hk ?_
    rw [e9, ← sy_pout (a3 k &&& 7) _ (a5 k) (sy_kinds _ e h7) (fun i => i.2 (by rw [← e8]; exact g))]
    exact H
  · refine sy_m60 k hk ?_
    rw [e9, ← sy_pin (a3 k &&& 7) _ (a5 k) (sy_kinds _ e h7) ⟨by rw [← e7]; exact l, by rw [← e8]; exact g⟩]
    exact H
theorem sy_n59 {post : St2 → Prop} {f1 f2 f3 f4 f5 f6 f7 f8 : Int32} {a1 a2 a3 a4 a5 a6 a7 a8 a9 a10 a11 a12 a13 a14 a15 a16 a17 a18 a19 a20 a21 a22 a23 : Nat → Int32} (c : Nat) (hc : c < 24) (v : Int32) (H : post (f1, f2, f3, f4, f5, f6, f7, f8, a1, a2, a3, a4, a5, a6, upd a7 c v, upd a8 c v, a9, a10, a11, a12, a13, a14, a15, a16, a17, a18, a19, a20, a21, a22, a23)) : wX_normalise_59 post (nI c) v f1 f2 f3 f4 f5 f6 f7 f8 a1 a2 a3 a4 a5 a6 a7 a8 a9 a10 a11 a12 a13 a14 a15 a16 a17 a18 a19 a20 a21 a22 a23 := by
  unfold wX_normalise_59
  rw [nI_clamp (show c < 2 ^ 31 by omega)]
  exact ⟨pk_in c 24 hc, nm_e ⟨pk_in c 24 hc, nm_e H⟩⟩
/-- what normalising place c leaves -/
def sy_N (c : Nat) (h v : Int32) (a7 a8 a9 b7 b8 b9 : Nat → Int32) : Prop := b7 c = sy_lo h v ∧ b8 c = sy_hi h v ∧ b9 c = sy_ou h ∧ ∀ j, j ≠ c → (b7 j = a7 j ∧ b8 j = a8 j ∧ b9 j = a9 j)
theorem sy_n48 {post : St2 → Prop} {f1 f2 f3 f4 f5 f6 f7 f8 : Int32} {a1 a2 a3 a4 a5 a6 a7 a8 a9 a10 a11 a12 a13 a14 a15 a16 a17 a18 a19 a20 a21 a22 a23 : Nat → Int32} (c : Nat) (hc : c < 24) (h v z0 : Int32) (hz : vp_nar .boolean z0 = sy_ou h) (e7 : a7 c = -2147483648) (e8 : a8 c = 2147483647)
    (H : ∀ b7 b8 b9 : Nat → Int32, sy_N c h v a7 a8 a9 b7 b8 b9 → post (f1, f2, f3, f4, f5, f6, f7, f8, a1, a2, a3, a4, a5, a6, b7, b8, b9, a10, a11, a12, a13, a14, a15, a16, a17, a18, a19, a20, a21, a22, a23)) : wX_normalise_48 post (nI c) h v z0 (nI c) f1 f2 f3 f4 f5 f6 f7 f8 a1 a2 a3 a4 a5 a6 a7 a8 a9 a10 a11 a12 a13 a14 a15 a16 a17 a18 a19 a20 a21 a22 a23 := by
  unfold wX_normalise_48
  rw [nI_clamp (show c < 2 ^ 31 by omega), hz]
  refine ⟨pk_in c 24 hc, nm_e ?_⟩
  refine br_c (fun e1 => sy_n59 c hc v (H _ _ _ ?_)) (fun e1 => br_c (fun e2 => sy_n59 c hc v (H _ _ _ ?_)) (fun e2 => br_c (fun e4 => ⟨pk_in c 24 hc, nm_e (H _ _ _ ?_)⟩) (fun e4 => br_c (fun e6 => ⟨pk_in c 24 hc, nm_e (H _ _ _ ?_)⟩) (fun e6 => br_c (fun e3 => ⟨pk_in c 24 hc, nm_e (br_c (fun q => ⟨pk_in c 24 hc, nm_e ⟨pk_in c 24 hc, nm_e (H _ _ _ ?_)⟩⟩) (fun q => H _ _ _ ?_))⟩) (fun e3 => br_c (fun e5 => ⟨pk_in c 24 hc, nm_e (br_c (fun q => ⟨pk_in c 24 hc, nm_e ⟨pk_in c 24 hc, nm_e (H _ _ _ ?_)⟩⟩) (fun q => H _ _ _ ?_))⟩) (fun e5 => H _ _ _ ?_))))))
  · subst e1
    exact ⟨pk_us, pk_us, pk_us, fun j hj => ⟨pk_un hj, pk_un hj, pk_un hj⟩⟩
  · subst e2
    exact ⟨pk_us, pk_us, pk_us, fun j hj => ⟨pk_un hj, pk_un hj, pk_un hj⟩⟩
  · subst e4
    exact ⟨e7, pk_us, pk_us, fun j hj => ⟨rfl, pk_un hj, pk_un hj⟩⟩
  · subst e6
    exact ⟨pk_us, e8, pk_us, fun j hj => ⟨pk_un hj, rfl, pk_un hj⟩⟩
  · subst e3
    subst q
    exact ⟨pk_us, pk_us, pk_us, fun j hj => ⟨pk_un hj, by rw [pk_un hj, pk_un hj], pk_un hj⟩⟩
  · subst e3
    refine ⟨?_, ?_, pk_us, fun j hj => ⟨rfl, pk_un hj, pk_un hj⟩⟩
    · show a7 c = if v = -2147483648 then 2147483647 else -2147483648
      rw [if_neg q, e7]
    · show upd a8 c (v - 1) c = if v = -2147483648 then -2147483648 else v - 1
      rw [if_neg q, pk_us]
  · subst e5
    subst q
    exact ⟨pk_us, pk_us, pk_us, fun j hj => ⟨by rw [pk_un hj, pk_un hj], pk_un hj, pk_un hj⟩⟩
  · subst e5
    refine ⟨?_, ?_, pk_us, fun j hj => ⟨pk_un hj, rfl, pk_un hj⟩⟩
    · show upd a7 c (v + 1) c = if v = 2147483647 then 2147483647 else v + 1
      rw [if_neg q, pk_us]
    · show a8 c = if v = 2147483647 then -2147483648 else 2147483647
      rw [if_neg q, e8]
  · refine ⟨?_, ?_, pk_us, fun j hj => ⟨rfl, rfl, pk_un hj⟩⟩
    · unfold sy_lo
      rw [if_neg e1, if_neg e2, if_neg e4, if_neg e6, if_neg e3, if_neg e5, e7]
    · unfold sy_hi
      rw [if_neg e1, if_neg e2, if_neg e4, if_neg e6, if_neg e3, if_neg e5, e8]
theorem sy_norm {post : St2 → Prop} {f1 f2 f3 f4 f5 f6 f7 f8 : Int32} {a1 a2 a3 a4 a5 a6 a7 a8 a9 a10 a11 a12 a13 a14 a15 a16 a17 a18 a19 a20 a21 a22 a23 : Nat → Int32} (c : Nat) (hc : c < 24)
    (H : ∀ b7 b8 b9 : Nat → Int32, sy_N c (a3 c &&& 7) (a5 c) a7 a8 a9 b7 b8 b9 → post (f1, f2, f3, f4, f5, f6, f7, f8, a1, a2, a3, a4, a5, a6, b7, b8, b9, a10, a11, a12, a13, a14, a15, a16, a17, a18, a19, a20, a21, a22, a23)) : wpX_normalise post (f1, f2, f3, f4, f5, f6, f7, f8, a1, a2, a3, a4, a5, a6, a7, a8, a9, a10, a11, a12, a13, a14, a15, a16, a17, a18, a19, a20, a21, a22, a23) (nI c) := by
  unfold wpX_normalise
  dsimp only
  rw [nI_clamp (show c < 2 ^ 31 by omega)]
  refine ⟨pk_in c 26 (by omega), nm_e ⟨pk_in c 26 (by omega), nm_e ⟨pk_in c 24 hc, nm_e ⟨pk_in c 24 hc, nm_e ?_⟩⟩⟩⟩
  have H' : ∀ b7 b8 b9 : Nat → Int32, sy_N c (a3 c &&& 7) (a5 c) (upd a7 c (-2147483648)) (upd a8 c 2147483647) a9 b7 b8 b9 → post (f1, f2, f3, f4, f5, f6, f7, f8, a1, a2, a3, a4, a5, a6, b7, b8, b9, a10, a11, a12, a13, a14, a15, a16, a17, a18, a19, a20, a21, a22, a23) := by
    intro b7 b8 b9 h
    refine H b7 b8 b9 ⟨h.1, h.2.1, h.2.2.1, fun j hj => ?_⟩
    have t := h.2.2.2 j hj
    rw [pk_un hj, pk_un hj] at t
    exact t
  refine br_c (fun e => ?_) (fun e => ?_)
  · refine sy_n48 c hc _ _ 1 ?_ pk_us pk_us H'
    unfold sy_ou
    rw [if_pos e]
    rfl
  · refine sy_n48 c hc _ _ 0 ?_ pk_us pk_us H'
    unfold sy_ou
    rw [if_neg e]
    rfl
end
section
theorem sy_cut17 {post : St2 → Prop} {J2 : Int32 → (Nat → Int32) → (Nat → Int32) → (Nat → Int32) → (Nat → Int32) → (Nat → Int32) → (Nat → Int32) → (Nat → Int32) → (Nat → Int32) → (Nat → Int32) → (Nat → Int32) → (Nat → Int32) → (Nat → Int32) → (Nat → Int32) → (Nat → Int32) → (Nat → Int32) → (Nat → Int32) → (Nat → Int32) → (Nat → Int32) → (Nat → Int32) → (Nat → Int32) → (Nat → Int32) → (Nat → Int32) → (Nat → Int32) → Prop} {f1 f2 f4 f5 f6 f7 f8 : Int32} {a1 a2 a3 a4 a5 a6 a7 a8 a9 a10 a11 a12 a13 a14 a15 a16 a17 a18 a19 a20 a21 a22 a23 : Nat → Int32} (x : Nat) (hx : x < 32) (h1 : a1 0 = 0) (h2 : a2 0 = 31) (hz : a10 x = 0)
    (H : J2 (nI (x + 1)) a1 a2 a3 a4 a5 a6 a7 a8 a9 (upd a10 x 1) a11 a12 a13 a14 a15 a16 a17 a18 a19 a20 a21 a22 a23) : ∃ n, wX_cutStretches_17 post J2 (nI x) f1 f2 1 f4 f5 f6 f7 f8 n 0 a1 a2 a3 a4 a5 a6 a7 a8 a9 a10 a11 a12 a13 a14 a15 a16 a17 a18 a19 a20 a21 a22 a23 := by
  refine ⟨2, br_f (by decide) ⟨pk_in 0 13 (by omega), br_f ?_ ⟨pk_in 0 13 (by omega), br_f ?_ ⟨pk_in x 32 hx, pk_in x 32 hx, nm_r (e' := upd a10 x 1) ?_ (nm_r (e' := 1) (by decide) (br_t (by decide) (nm_r (nI_1 x) H)))⟩⟩⟩⟩
  · show ¬ nI x < a1 0
    rw [h1]
    exact nI_pos (by omega)
  · show ¬ a2 0 < nI x
    rw [h2]
    exact nI_nlt (a := 31) (b := x) (by omega) (by omega)
  · rw [nI_clamp (show x < 2 ^ 31 by omega), hz]
    rfl
theorem sy_cut2 {post : St2 → Prop} {f1 f2 f4 f5 f6 f7 f8 : Int32} {a1 a2 a3 a4 a5 a6 a7 a8 a9 a10 a11 a12 a13 a14 a15 a16 a17 a18 a19 a20 a21 a22 a23 : Nat → Int32} (h1 : a1 0 = 0) (h2 : a2 0 = 31)
    (H : ∀ b10 : Nat → Int32, (∀ j, j < 32 → b10 j = 1) → ∃ n, wX_cutStretches_80 post f1 f2 1 f4 f5 f7 f8 n 0 0 a1 a2 a3 a4 a5 a6 a7 a8 a9 b10 a11 a12 a13 a14 a15 a16 a17 a18 a19 a20 a21 a22 a23) : ∃ n, wX_cutStretches_2 post f1 f2 1 f4 f5 f6 f7 f8 n 0 a1 a2 a3 a4 a5 a6 a7 a8 a9 a10 a11 a12 a13 a14 a15 a16 a17 a18 a19 a20 a21 a22 a23 :=
  pk_loop (fun n i s => wX_cutStretches_2 post f1 f2 1 f4 f5 f6 f7 f8 n (nI i) a1 a2 a3 a4 a5 a6 a7 a8 a9 s a11 a12 a13 a14 a15 a16 a17 a18 a19 a20 a21 a22 a23) (fun i s => ∀ j, j < i → s j = 1) 32 0 a10 (by omega) (fun j hj => absurd hj (by omega))
    (fun n s h => pk_le 32 32 (fun _ => H s h) (fun z => absurd z (by omega)))
    (fun n i s hi h hw => pk_le 32 i (fun z => absurd z (by omega)) (fun _ => ⟨pk_in i 32 hi, nm_r (e' := upd s i 0) (by rw [nI_clamp (show i < 2 ^ 31 by omega)]) (sy_cut17 i hi h1 h2 pk_us (hw _ (fun j hj => by
      by_cases e : j = i
      · rw [e, pk_us]
      · rw [pk_un e, pk_un e]
        exact h j (by omega))))⟩))
theorem sy_cut80 {post : St2 → Prop} {f1 f2 f3 f4 f5 f7 f8 : Int32} {a1 a2 a3 a4 a5 a6 a7 a8 a9 a10 a11 a12 a13 a14 a15 a16 a17 a18 a19 a20 a21 a22 a23 : Nat → Int32} (h10 : ∀ j, j < 32 → a10 j = 1) (H : post (f1, f2, f3, f4, f5, 1, f7, f8, a1, a2, a3, a4, a5, a6, a7, a8, a9, a10, upd (upd a11 0 0) 1 32, a12, a13, a14, a15, a16, a17, a18, a19, a20, a21, a22, a23)) : ∃ n, wX_cutStretches_80 post f1 f2 f3 f4 f5 f7 f8 n 0 0 a1 a2 a3 a4 a5 a6 a7 a8 a9 a10 a11 a12 a13 a14 a15 a16 a17 a18 a19 a20 a21 a22 a23 := by
  obtain ⟨n, hn⟩ := pk_loop (σ := Unit) (fun n i _ => wX_cutStretches_80 post f1 f2 f3 f4 f5 f7 f8 n (nI i) 1 a1 a2 a3 a4 a5 a6 a7 a8 a9 a10 (upd a11 0 0) a12 a13 a14 a15 a16 a17 a18 a19 a20 a21 a22 a23) (fun i _ => 1 ≤ i) 32 1 () (by omega) (by omega)
    (fun n _ h => pk_le 32 32 (fun _ => ⟨pk_in 1 33 (by omega), nm_e H⟩) (fun z => absurd z (by omega)))
    (fun n i _ hi h hw => pk_le 32 i (fun z => absurd z (by omega)) (fun _ => pk_eq i 0 (fun z => absurd z (by omega)) (fun _ => ⟨pk_in i 32 hi, pk_in (i - 1) 32 (by omega) (pk_sub (a := i) (b := 1) h), br_t (by
      rw [show nI i - 1 = nI (i - 1) from pk_sub (a := i) (b := 1) h, nI_clamp (show i < 2 ^ 31 by omega), nI_clamp (show i - 1 < 2 ^ 31 by omega), h10 i hi, h10 (i - 1) (by omega)]) (nm_r (nI_1 i) (hw () (by omega)))⟩)))
  refine ⟨n + 1, br_f (by decide) (br_t rfl ?_)⟩
  unfold wX_cutStretches_107
  exact ⟨pk_in 0 33 (by omega), nm_e (nm_r (e' := 1) (by decide) (nm_r (e' := nI 1) (by decide) hn))⟩
theorem sy_cut {post : St2 → Prop} {f1 f2 f4 f5 f6 f7 f8 : Int32} {a1 a2 a3 a4 a5 a6 a7 a8 a9 a10 a11 a12 a13 a14 a15 a16 a17 a18 a19 a20 a21 a22 a23 : Nat → Int32} (h1 : a1 0 = 0) (h2 : a2 0 = 31)
    (H : ∀ b10 : Nat → Int32, (∀ j, j < 32 → b10 j = 1) → post (f1, f2, 1, f4, f5, 1, f7, f8, a1, a2, a3, a4, a5, a6, a7, a8, a9, b10, upd (upd a11 0 0) 1 32, a12, a13, a14, a15, a16, a17, a18, a19, a20, a21, a22, a23)) : wpX_cutStretches post (f1, f2, 1, f4, f5, f6, f7, f8, a1, a2, a3, a4, a5, a6, a7, a8, a9, a10, a11, a12, a13, a14, a15, a16, a17, a18, a19, a20, a21, a22, a23) := by
  unfold wpX_cutStretches
  dsimp only
  exact sy_cut2 h1 h2 (fun b10 hb => sy_cut80 hb (H b10 hb))
theorem sy_tree {post : St2 → Prop} {f1 f2 f3 f4 f5 f7 f8 : Int32} {a1 a2 a3 a4 a5 a6 a7 a8 a9 a10 a11 a12 a13 a14 a15 a16 a17 a18 a19 a20 a21 a22 a23 : Nat → Int32} (H : ∀ b18 b19 : Nat → Int32, post (f1, f2, f3, f4, f5, 1, f7, f8, a1, a2, a3, a4, a5, a6, a7, a8, a9, a10, a11, a12, a13, a14, upd a15 0 (-1), upd a16 0 0, a17, b18, b19, a20, a21, a22, a23)) : wpX_buildTree post (f1, f2, f3, f4, f5, 1, f7, f8, a1, a2, a3, a4, a5, a6, a7, a8, a9, a10, a11, a12, a13, a14, a15, a16, a17, a18, a19, a20, a21, a22, a23) := by
  unfold wpX_buildTree
  dsimp only
  refine nm_e (nm_e ⟨2, br_f (by decide) (br_f (by decide) ⟨pk_in 0 64 (by omega), nm_r (e' := 0) rfl ⟨pk_in 0 64 (by omega), nm_r (e' := 1) rfl (br_t (by decide) ?_)⟩⟩)⟩)
  unfold wX_buildTree_61
  exact ⟨pk_in 0 64 (by omega), nm_e ⟨pk_in 0 64 (by omega), nm_e (nm_r (e' := 1) (by decide) (br_f (by decide) (br_t (by decide) (H _ _))))⟩⟩
theorem sy_test {post : Int32 → St2 → Prop} {f1 f2 f3 f4 f5 f6 f8 : Int32} {a1 a2 a3 a4 a5 a6 a7 a8 a9 a10 a11 a12 a13 a14 a15 a16 a17 a18 a19 a20 a21 a22 a23 : Nat → Int32} {r o : Int32} (H : post 0 (f1, f2, f3, f4, f5, f6, 1, f8, a1, a2, a3, a4, a5, a6, a7, a8, a9, a10, a11, a12, upd a13 0 r, upd a14 0 o, a15, a16, a17, a18, a19, a20, a21, a22, a23)) : wpX_test post (f1, f2, f3, f4, f5, f6, 0, f8, a1, a2, a3, a4, a5, a6, a7, a8, a9, a10, a11, a12, a13, a14, a15, a16, a17, a18, a19, a20, a21, a22, a23) r o := by
  unfold wpX_test
  dsimp only
  refine ⟨1, br_t (by decide) (br_f (by decide) ⟨pk_in 0 400 (by omega), nm_e ⟨pk_in 0 400 (by omega), nm_e (nm_r (e' := 1) (by decide) ?_)⟩⟩)⟩
  rw [show (1 : Int32) - 1 = 0 by decide]
  exact H
theorem sy_chain27 {post : Int32 → St2 → Prop} {f1 f2 f4 f5 f6 f8 : Int32} {a1 a2 a3 a4 a5 a6 a7 a8 a9 a10 a11 a12 a13 a14 a15 a16 a17 a18 a19 a20 a21 a22 a23 : Nat → Int32} (H : post 0 (f1, f2, 1, f4, f5, f6, 1, f8, a1, a2, a3, a4, a5, a6, a7, a8, a9, a10, a11, a12, upd a13 0 0, upd a14 0 (-1), a15, a16, a17, a18, a19, a20, a21, a22, a23)) : wX_buildChain_27 post 1 f1 f2 1 f4 f5 f6 0 f8 a1 a2 a3 a4 a5 a6 a7 a8 a9 a10 a11 a12 a13 a14 a15 a16 a17 a18 a19 a20 a21 a22 a23 := by
  unfold wX_buildChain_27
  refine nm_r (e' := 0) (by decide) ⟨2, br_f (by decide) (br_t (by decide) (sy_test ?_))⟩
  exact nm_r (e' := -1) (by decide) (br_t (by decide) H)
theorem sy_chain {post : Int32 → St2 → Prop} {f1 f2 f4 f5 f6 f8 : Int32} {a1 a2 a3 a4 a5 a6 a7 a8 a9 a10 a11 a12 a13 a14 a15 a16 a17 a18 a19 a20 a21 a22 a23 : Nat → Int32} {p : Int32} (hp : p = 1) (h5 : f5 = 0 ∨ f5 = 1) (H : post 0 (f1, f2, 1, f4, f5, f6, 1, f8, a1, a2, a3, a4, a5, a6, a7, a8, a9, a10, a11, a12, upd a13 0 0, upd a14 0 (-1), a15, a16, a17, a18, a19, a20, a21, a22, a23)) : wpX_buildChain post (f1, f2, 1, f4, f5, f6, 0, f8, a1, a2, a3, a4, a5, a6, a7, a8, a9, a10, a11, a12, a13, a14, a15, a16, a17, a18, a19, a20, a21, a22, a23) p := by
  unfold wpX_buildChain
  dsimp only
  subst hp
  rcases h5 with rfl | rfl
  · exact nm_r (e' := 0) (by decide) (nm_r (e' := 0) (by decide) (br_t rfl (sy_chain27 H)))
  · refine nm_r (e' := 1) (by decide) (nm_r (e' := 1) (by decide) (br_f (by decide) ?_))
    rw [show (1 : Int32) &&& (1 ||| (1 - 1)) = 1 by decide]
    exact sy_chain27 H
theorem sy_c103 {post : St2 → Prop} {f1 f2 f4 f5 f8 : Int32} {a1 a2 a3 a4 a5 a6 a7 a8 a9 a10 a11 a12 a13 a14 a15 a16 a17 a18 a19 a20 a21 a22 a23 : Nat → Int32} (h5 : f5 = 0 ∨ f5 = 1) (h10 : a10 0 = 1) (h11 : a11 0 = 0)
    (H : ∀ b18 b19 : Nat → Int32, post (f1, f2, 1, f4, f5, 1, 1, f8, a1, a2, a3, a4, a5, a6, a7, a8, a9, a10, a11, upd a12 0 0, upd a13 0 0, upd a14 0 (-1), upd a15 0 (-1), upd a16 0 0, a17, b18, b19, a20, a21, a22, a23)) : ∃ n, wX_compile_103 post n 0 f1 f2 1 f4 f5 1 0 f8 a1 a2 a3 a4 a5 a6 a7 a8 a9 a10 a11 a12 a13 a14 a15 a16 a17 a18 a19 a20 a21 a22 a23 := by
  have e : a11 (0 : Int32).toNatClampNeg = 0 := h11
  refine ⟨2, br_f (by decide) ⟨pk_in 0 33 (by omega), ?_, ?_⟩⟩
  · rw [e]
    exact pk_in 0 32 (by omega)
  · refine sy_chain ?_ h5 ?_
    · rw [e]
      exact h10
    · exact ⟨pk_in 0 32 (by omega), nm_e (nm_r (e' := 1) (by decide) (br_t (by decide) (sy_tree (fun b18 b19 => H b18 b19))))⟩
theorem sy_c20 {post : St2 → Prop} {f1 f2 f4 f5 f6 f7 f8 : Int32} {a1 a2 a3 a4 a5 a6 a7 a8 a9 a10 a11 a12 a13 a14 a15 a16 a17 a18 a19 a20 a21 a22 a23 : Nat → Int32} (n : Nat) (h5 : f5 = 0 ∨ f5 = 1) (h1 : a1 0 = 0) (h2 : a2 0 = 31)
    (H : ∀ b10 b18 b19 : Nat → Int32, (∀ j, j < 32 → b10 j = 1) → post (f1, f2, 1, f4, f5, 1, 1, f8, a1, a2, a3, a4, a5, a6, a7, a8, a9, b10, upd (upd a11 0 0) 1 32, upd a12 0 0, upd a13 0 0, upd a14 0 (-1), upd a15 0 (-1), upd a16 0 0, a17, b18, b19, a20, a21, a22, a23)) : wX_compile_20 post (n + 1) 1 f1 f2 1 f4 f5 f6 f7 f8 a1 a2 a3 a4 a5 a6 a7 a8 a9 a10 a11 a12 a13 a14 a15 a16 a17 a18 a19 a20 a21 a22 a23 :=
  br_t (by decide) (sy_cut h1 h2 (fun b10 hb => sy_c103 h5 (hb 0 (by omega)) (by rw [pk_un (by omega), pk_us]) (fun b18 b19 => H b10 b18 b19 hb)))
theorem sy_compile {post : St2 → Prop} {f1 f2 f4 f5 f6 f7 : Int32} {a1 a2 a3 a4 a5 a6 a7 a8 a9 a10 a11 a12 a13 a14 a15 a16 a17 a18 a19 a20 a21 a22 a23 : Nat → Int32} (h1 : a1 0 = 0) (h2 : a2 0 = 31)
    (H : ∀ (g5 : Int32) (b7 b8 b9 b10 b18 b19 : Nat → Int32), b7 0 = sy_lo (a3 0 &&& 7) (a5 0) → b8 0 = sy_hi (a3 0 &&& 7) (a5 0) → b9 0 = sy_ou (a3 0 &&& 7) → b7 1 = sy_lo (a3 1 &&& 7) (a5 1) → b8 1 = sy_hi (a3 1 &&& 7) (a5 1) → b9 1 = sy_ou (a3 1 &&& 7) → (∀ j, j < 32 → b10 j = 1) → post (f1, f2, 1, f4, g5, 1, 1, 1, a1, a2, a3, a4, a5, a6, b7, b8, b9, b10, upd (upd a11 0 0) 1 32, upd a12 0 0, upd a13 0 0, upd a14 0 (-1), upd a15 0 (-1), upd a16 0 0, a17, b18, b19, a20, a21, a22, a23)) : wpX_compile post (f1, f2, 1, f4, f5, f6, f7, 0, a1, a2, a3, a4, a5, a6, a7, a8, a9, a10, a11, a12, a13, a14, a15, a16, a17, a18, a19, a20, a21, a22, a23) := by
  unfold wpX_compile
  dsimp only
  refine br_t rfl ⟨2, br_f (by decide) ?_⟩
  rw [show (2 : Int32) * 0 = nI 0 by decide]
  refine sy_norm 0 (by omega) (fun c7 c8 c9 hc => ?_)
  show wpX_normalise _ _ _
  rw [show nI 0 + 1 = nI 1 by decide]
  refine sy_norm 1 (by omega) (fun b7 b8 b9 hb => ?_)
  have k := hb.2.2.2 0 (by omega)
  have HH : ∀ g5 : Int32, (g5 = 0 ∨ g5 = 1) → wX_compile_20 post 1 1 f1 f2 1 f4 g5 f6 f7 1 a1 a2 a3 a4 a5 a6 b7 b8 b9 a10 a11 a12 a13 a14 a15 a16 a17 a18 a19 a20 a21 a22 a23 := fun g5 h5 => sy_c20 0 h5 h1 h2 (fun b10 b18 b19 h10 => H g5 b7 b8 b9 b10 b18 b19 (by rw [k.1]; exact hc.1) (by rw [k.2.1]; exact hc.2.1) (by rw [k.2.2]; exact hc.2.2.1) hb.1 hb.2.1 hb.2.2.1 h10)
  refine ⟨pk_in 0 26 (by omega), br_c (fun _ => ⟨pk_in 1 26 (by omega), br_c (fun _ => ?_) (fun _ => ?_)⟩) (fun _ => ?_)⟩
  · exact nm_r (e' := 1) (by decide) (nm_r (e' := 1) (by decide) (HH 1 (Or.inr rfl)))
  · exact nm_r (e' := 1) (by decide) (HH 0 (Or.inl rfl))
  · exact nm_r (e' := 1) (by decide) (HH 0 (Or.inl rfl))
end
section
/-- a compiled state: one rule over all numbers, in one stretch, that holds with answer m -/
def sy_K (m : Int32) (u : St2) : Prop := match u with
  | (f1, f2, f3, f4, f5, f6, f7, f8, a1, a2, a3, a4, a5, a6, a7, a8, a9, a10, a11, a12, a13, a14, a15, a16, a17, a18, a19, a20, a21, a22, a23) => f3 = 1 ∧ f4 = 0 ∧ f6 = 1 ∧ f8 = 1 ∧ a6 0 = 2 ∧ a10 0 = 1 ∧ a10 31 = 1 ∧ a11 0 = 0 ∧ a11 1 = 32 ∧ a12 0 = 0 ∧ a13 0 = 0 ∧ a14 0 = -1 ∧ a15 0 = -1 ∧ a16 0 = 0 ∧ (∀ post : Int32 → Prop, post m → wpX_holds post (f1, f2, f3, f4, f5, f6, f7, f8, a1, a2, a3, a4, a5, a6, a7, a8, a9, a10, a11, a12, a13, a14, a15, a16, a17, a18, a19, a20, a21, a22, a23) 0)
/-- a state that compile makes one -/
def sy_R (m : Int32) (u : St2) : Prop := ∀ post : St2 → Prop, (∀ v : St2, sy_K m v → post v) → wpX_compile post u
theorem sy_KR {m : Int32} {u : St2} (h : sy_K m u) : sy_R m u := by
  intro post H
  obtain ⟨f1, f2, f3, f4, f5, f6, f7, f8, a1, a2, a3, a4, a5, a6, a7, a8, a9, a10, a11, a12, a13, a14, a15, a16, a17, a18, a19, a20, a21, a22, a23⟩ := u
  unfold wpX_compile
  dsimp only
  refine br_f ?_ (H _ h)
  have h8 : f8 = 1 := h.2.2.2.1
  rw [h8]
  decide
theorem sy_isNum {post : Int32 → Prop} {x : Int32} (h : ¬ x < 0) (h' : ¬ 32 ≤ x) (H : post 1) : wpX_isNumber post () x := br_f h (br_f h' H)
theorem sy_isAct {post : Int32 → Prop} {x : Int32} (h : ¬ x < 0) (h' : ¬ 3 < x) (H : post 1) : wpX_isAction post () x := br_f h (br_f h' H)
theorem sy_holds {post : Int32 → Prop} {f1 f2 f3 f4 f5 f6 f7 f8 : Int32} {a1 a2 a3 a4 a5 a6 a7 a8 a9 a10 a11 a12 a13 a14 a15 a16 a17 a18 a19 a20 a21 a22 a23 : Nat → Int32} {m0 m1 : Int32} (h0 : ∀ post : Int32 → Prop, post m0 → wpX_meets post (f1, f2, f3, f4, f5, f6, f7, f8, a1, a2, a3, a4, a5, a6, a7, a8, a9, a10, a11, a12, a13, a14, a15, a16, a17, a18, a19, a20, a21, a22, a23) (nI 0)) (h1 : ∀ post : Int32 → Prop, post m1 → wpX_meets post (f1, f2, f3, f4, f5, f6, f7, f8, a1, a2, a3, a4, a5, a6, a7, a8, a9, a10, a11, a12, a13, a14, a15, a16, a17, a18, a19, a20, a21, a22, a23) (nI 1)) (H : post (sy_and m0 m1)) : wpX_holds post (f1, f2, f3, f4, f5, f6, f7, f8, a1, a2, a3, a4, a5, a6, a7, a8, a9, a10, a11, a12, a13, a14, a15, a16, a17, a18, a19, a20, a21, a22, a23) 0 := by
  unfold wpX_holds
  dsimp only
  rw [show (2 : Int32) * 0 = nI 0 by decide]
  refine h0 _ ?_
  unfold sy_and at H
  refine br_c (fun e => ?_) (fun e => ?_)
  · rw [if_pos e] at H
    exact H
  · rw [if_neg e] at H
    rw [show nI 0 + 1 = nI 1 by decide]
    refine h1 _ ?_
    refine br_c (fun e' => ?_) (fun e' => ?_)
    · rw [if_pos e'] at H
      exact H
    · rw [if_neg e'] at H
      exact H
theorem sy_stretch {post : Int32 → Prop} {m : Int32} {u : St2} {x : Int32} (h : sy_K m u) (H : post 0) : wpX_stretchOf post u x := by
  obtain ⟨f1, f2, f3, f4, f5, f6, f7, f8, a1, a2, a3, a4, a5, a6, a7, a8, a9, a10, a11, a12, a13, a14, a15, a16, a17, a18, a19, a20, a21, a22, a23⟩ := u
  obtain ⟨h3, h4, h6, h8, k6, k10, k10', k11, k11', k12, k13, k14, k15, k16, hh⟩ := h
  unfold wpX_stretchOf
  dsimp only
  refine ⟨1, br_f (by decide) ⟨pk_in 0 64 (by omega), br_t k15 ⟨pk_in 0 64 (by omega), ?_⟩⟩⟩
  show post (a16 0)
  rw [k16]
  exact H
theorem sy_follow {post : Int32 → Prop} {m : Int32} {u : St2} {x : Int32} (h : sy_K m u) (hx : x = 0) (H0 : m = 0 → post (-1)) (H1 : ¬ m = 0 → post 0) : wpX_follow post u x := by
  obtain ⟨f1, f2, f3, f4, f5, f6, f7, f8, a1, a2, a3, a4, a5, a6, a7, a8, a9, a10, a11, a12, a13, a14, a15, a16, a17, a18, a19, a20, a21, a22, a23⟩ := u
  obtain ⟨h3, h4, h6, h8, k6, k10, k10', k11, k11', k12, k13, k14, k15, k16, hh⟩ := h
  subst hx
  unfold wpX_follow
  dsimp only
  refine ⟨2, br_f (by decide) (br_f (by decide) ⟨pk_in 0 400 (by omega), ?_⟩)⟩
  rw [show a13 (0 : Int32).toNatClampNeg = 0 from k13]
  refine hh _ ?_
  refine br_c (fun e => ⟨pk_in 0 400 (by omega), nm_r (e' := -1) k14 (nm_r (e' := 1) (by decide) (br_f (by decide) (br_t rfl (H0 e))))⟩) (fun e => ⟨pk_in 0 400 (by omega), H1 e⟩)
theorem sy_verdict {post : Int32 → Prop} {m : Int32} {u : St2} {x : Int32} (h : sy_K m u) (hx : x = 0) (H0 : m = 0 → post 0) (H1 : ¬ m = 0 → post 2) : wpX_verdict post u x := by
  obtain ⟨f1, f2, f3, f4, f5, f6, f7, f8, a1, a2, a3, a4, a5, a6, a7, a8, a9, a10, a11, a12, a13, a14, a15, a16, a17, a18, a19, a20, a21, a22, a23⟩ := u
  have h' := h
  obtain ⟨h3, h4, h6, h8, k6, k10, k10', k11, k11', k12, k13, k14, k15, k16, hh⟩ := h'
  subst hx
  unfold wpX_verdict
  dsimp only
  refine ⟨pk_in 0 32 (by omega), sy_follow h k12 (fun e => br_t rfl ?_) (fun e => br_f (by decide) ⟨pk_in 0 13 (by omega), ?_⟩)⟩
  · rw [h4]
    exact H0 e
  · show post (a6 0)
    rw [k6]
    exact H1 e
theorem sy_matched {post : Int32 → St2 → Prop} {m : Int32} {u : St2} (h : sy_R m u) (H0 : m = 0 → ∀ v, sy_K m v → post (-2) v) (H1 : ¬ m = 0 → ∀ v, sy_K m v → post 0 v) : wpX_matched post u 5 := by
  obtain ⟨f1, f2, f3, f4, f5, f6, f7, f8, a1, a2, a3, a4, a5, a6, a7, a8, a9, a10, a11, a12, a13, a14, a15, a16, a17, a18, a19, a20, a21, a22, a23⟩ := u
  unfold wpX_matched
  dsimp only
  refine sy_isNum (by decide) (by decide) (br_f (by decide) (h _ (fun v k => ?_)))
  obtain ⟨f1, f2, f3, f4, f5, f6, f7, f8, a1, a2, a3, a4, a5, a6, a7, a8, a9, a10, a11, a12, a13, a14, a15, a16, a17, a18, a19, a20, a21, a22, a23⟩ := v
  dsimp only
  refine sy_stretch k ⟨pk_in 0 32 (by omega), ?_⟩
  exact sy_follow k k.2.2.2.2.2.2.2.2.2.1 (fun e => br_t rfl (H0 e _ k)) (fun e => br_f (by decide) (H1 e _ k))
theorem sy_decide {post : Int32 → St2 → Prop} {m : Int32} {u : St2} (h : sy_R m u) (H0 : m = 0 → ∀ v, sy_K m v → post 0 v) (H1 : ¬ m = 0 → ∀ v, sy_K m v → post 2 v) : wpX_decide post u 5 := by
  obtain ⟨f1, f2, f3, f4, f5, f6, f7, f8, a1, a2, a3, a4, a5, a6, a7, a8, a9, a10, a11, a12, a13, a14, a15, a16, a17, a18, a19, a20, a21, a22, a23⟩ := u
  unfold wpX_decide
  dsimp only
  refine sy_isNum (by decide) (by decide) (br_f (by decide) (h _ (fun v k => ?_)))
  obtain ⟨f1, f2, f3, f4, f5, f6, f7, f8, a1, a2, a3, a4, a5, a6, a7, a8, a9, a10, a11, a12, a13, a14, a15, a16, a17, a18, a19, a20, a21, a22, a23⟩ := v
  dsimp only
  exact sy_stretch k (sy_verdict k rfl (fun e => H0 e _ k) (fun e => H1 e _ k))
theorem sy_countWith {post : Int32 → St2 → Prop} {m : Int32} {u : St2} (h : sy_R m u) (H0 : m = 0 → ∀ v, sy_K m v → post 0 v) (H1 : ¬ m = 0 → ∀ v, sy_K m v → post 10 v) : wpX_countWith post u 2 3 12 := by
  obtain ⟨f1, f2, f3, f4, f5, f6, f7, f8, a1, a2, a3, a4, a5, a6, a7, a8, a9, a10, a11, a12, a13, a14, a15, a16, a17, a18, a19, a20, a21, a22, a23⟩ := u
  unfold wpX_countWith
  dsimp only
  refine sy_isNum (by decide) (by decide) (br_f (by decide) (sy_isNum (by decide) (by decide) (br_f (by decide) (br_t (by decide) (sy_isAct (by decide) (by decide) (br_f (by decide) (h _ (fun v k => ?_))))))))
  obtain ⟨f1, f2, f3, f4, f5, f6, f7, f8, a1, a2, a3, a4, a5, a6, a7, a8, a9, a10, a11, a12, a13, a14, a15, a16, a17, a18, a19, a20, a21, a22, a23⟩ := v
  have k' := k
  obtain ⟨h3, h4, h6, h8, k6, k10, k10', k11, k11', k12, k13, k14, k15, k16, hh⟩ := k'
  subst h6
  dsimp only
  refine ⟨2, br_f (by decide) ⟨pk_in 0 33 (by omega), br_t ?_ ?_⟩⟩
  · rw [show a11 (0 : Int32).toNatClampNeg = 0 from k11]
    decide
  · unfold wX_countWith_75
    refine ⟨pk_in 1 33 (by omega), br_t ?_ ?_⟩
    · rw [show a11 ((0 : Int32) + 1).toNatClampNeg = 32 from k11']
      decide
    · unfold wX_countWith_107
      refine br_f (by decide) (sy_verdict k rfl (fun e => br_f (by decide) (nm_r (e' := 1) (by decide) (br_t (by decide) (H0 e _ k)))) (fun e => br_t rfl (nm_r (e' := 10) (by decide) (nm_r (e' := 1) (by decide) (br_t (by decide) (H1 e _ k))))))
theorem sy_matching {post : Int32 → St2 → Prop} {m : Int32} {u : St2} (h : sy_R m u) (H0 : m = 0 → ∀ v, sy_K m v → post 0 v) (H1 : ¬ m = 0 → ∀ v, sy_K m v → post 1 v) : wpX_matching post u 31 := by
  obtain ⟨f1, f2, f3, f4, f5, f6, f7, f8, a1, a2, a3, a4, a5, a6, a7, a8, a9, a10, a11, a12, a13, a14, a15, a16, a17, a18, a19, a20, a21, a22, a23⟩ := u
  unfold wpX_matching
  dsimp only
  refine sy_isNum (by decide) (by decide) (br_f (by decide) (h _ (fun v k => ?_)))
  obtain ⟨f1, f2, f3, f4, f5, f6, f7, f8, a1, a2, a3, a4, a5, a6, a7, a8, a9, a10, a11, a12, a13, a14, a15, a16, a17, a18, a19, a20, a21, a22, a23⟩ := v
  have k' := k
  obtain ⟨h3, h4, h6, h8, k6, k10, k10', k11, k11', k12, k13, k14, k15, k16, hh⟩ := k'
  subst h3
  dsimp only
  refine ⟨2, br_f (by decide) ⟨pk_in 31 32 (by omega), br_t ?_ (hh _ ?_)⟩⟩
  · rw [show a10 (31 : Int32).toNatClampNeg = 1 from k10']
    decide
  · exact br_c (fun e => nm_r (e' := 1) (by decide) (br_t (by decide) (H0 e _ k))) (fun e => nm_r (e' := 1) (by decide) (nm_r (e' := 1) (by decide) (br_t (by decide) (H1 e _ k))))
theorem sy_open {post : Int32 → St2 → Prop} {m : Int32} {u : St2} (h : sy_R m u) (H : ∀ v, sy_K m v → post 0 v) : wpX_open post u := by
  obtain ⟨f1, f2, f3, f4, f5, f6, f7, f8, a1, a2, a3, a4, a5, a6, a7, a8, a9, a10, a11, a12, a13, a14, a15, a16, a17, a18, a19, a20, a21, a22, a23⟩ := u
  unfold wpX_open
  dsimp only
  refine h _ (fun v k => ?_)
  obtain ⟨f1, f2, f3, f4, f5, f6, f7, f8, a1, a2, a3, a4, a5, a6, a7, a8, a9, a10, a11, a12, a13, a14, a15, a16, a17, a18, a19, a20, a21, a22, a23⟩ := v
  have k' := k
  obtain ⟨h3, h4, h6, h8, k6, k10, k10', k11, k11', k12, k13, k14, k15, k16, hh⟩ := k'
  subst h6
  dsimp only
  have e : a11 (0 : Int32).toNatClampNeg = 0 := k11
  refine ⟨2, br_f (by decide) ⟨pk_in 0 33 (by omega), ?_, br_f ?_ (nm_r (e' := 1) (by decide) (br_t (by decide) (H _ k)))⟩⟩
  · rw [e]
    exact pk_in 0 32 (by omega)
  · rw [e, show a10 (0 : Int32).toNatClampNeg = 1 from k10]
    decide
/-- the state before the first call that compiles -/
theorem sy_fresh {f1 f2 f5 f6 f7 : Int32} {a1 a2 a3 a4 a5 a6 a7 a8 a9 a10 a11 a12 a13 a14 a15 a16 a17 a18 a19 a20 a21 a22 a23 : Nat → Int32} (h1 : a1 0 = 0) (h2 : a2 0 = 31) (h6 : a6 0 = 2)
    (s0 : vp_in ((a3 0) >>> ((3 : Int32) &&& 31)) 2) (s1 : vp_in ((a3 1) >>> ((3 : Int32) &&& 31)) 2) (t0 : ¬ a3 0 &&& 7 = 7) (t1 : ¬ a3 1 &&& 7 = 7) :
    sy_R (sy_and (sy_cmp (a3 0 &&& 7) ((a20 ((a3 0) >>> ((3 : Int32) &&& 31)).toNatClampNeg) &&& (a4 0)) (a5 0)) (sy_cmp (a3 1 &&& 7) ((a20 ((a3 1) >>> ((3 : Int32) &&& 31)).toNatClampNeg) &&& (a4 1)) (a5 1))) (f1, f2, 1, 0, f5, f6, f7, 0, a1, a2, a3, a4, a5, a6, a7, a8, a9, a10, a11, a12, a13, a14, a15, a16, a17, a18, a19, a20, a21, a22, a23) := by
  intro post H
  refine sy_compile h1 h2 (fun g5 b7 b8 b9 b10 b18 b19 p0 p1 p2 p3 p4 p5 p10 => H _ ?_)
  refine ⟨rfl, rfl, rfl, rfl, h6, p10 0 (by omega), p10 31 (by omega), by rw [pk_un (by omega), pk_us], pk_us, pk_us, pk_us, pk_us, pk_us, pk_us, fun post hp => ?_⟩
  exact sy_holds (fun post hp => sy_meets 0 (by omega) s0 t0 p0 p1 p2 hp) (fun post hp => sy_meets 1 (by omega) s1 t1 p3 p4 p5 hp) hp
end
section
theorem sy_240 {post : Int32 → St0 → Prop} {mc ms kc ks : Nat} {z : Int32} {f1 f2 f3 f4 f5 f6 f7 f8 : Int32} {a1 a2 a3 a4 a5 a6 a7 a8 a9 a10 a11 a12 a13 a14 a15 a16 a17 a18 a19 a20 a21 a22 a23 : Nat → Int32} {m : Int32} (h : sy_R m (f1, f2, f3, f4, f5, f6, f7, f8, a1, a2, a3, a4, a5, a6, a7, a8, a9, a10, a11, a12, a13, a14, a15, a16, a17, a18, a19, a20, a21, a22, a23)) (H : post 1 ()) : wL_lawOf_240 post mc ms z z kc ks f1 f2 f3 f4 f5 f6 f7 f8 a1 a2 a3 a4 a5 a6 a7 a8 a9 a10 a11 a12 a13 a14 a15 a16 a17 a18 a19 a20 a21 a22 a23 := by
  unfold wL_lawOf_240
  refine br_t rfl (sy_open h (fun v k => ?_))
  obtain ⟨f1, f2, f3, f4, f5, f6, f7, f8, a1, a2, a3, a4, a5, a6, a7, a8, a9, a10, a11, a12, a13, a14, a15, a16, a17, a18, a19, a20, a21, a22, a23⟩ := v
  exact br_t rfl H
theorem sy_220 {post : Int32 → St0 → Prop} {mc ms kc ks : Nat} {z : Int32} {f1 f2 f3 f4 f5 f6 f7 f8 : Int32} {a1 a2 a3 a4 a5 a6 a7 a8 a9 a10 a11 a12 a13 a14 a15 a16 a17 a18 a19 a20 a21 a22 a23 : Nat → Int32} {m : Int32} (h : sy_R m (f1, f2, f3, f4, f5, f6, f7, f8, a1, a2, a3, a4, a5, a6, a7, a8, a9, a10, a11, a12, a13, a14, a15, a16, a17, a18, a19, a20, a21, a22, a23)) (H : post 1 ()) : wL_lawOf_220 post mc ms m z z kc ks f1 f2 f3 f4 f5 f6 f7 f8 a1 a2 a3 a4 a5 a6 a7 a8 a9 a10 a11 a12 a13 a14 a15 a16 a17 a18 a19 a20 a21 a22 a23 := by
  unfold wL_lawOf_220
  refine br_t rfl (sy_matching h (fun e v k => ?_) (fun e v k => ?_))
  · obtain ⟨f1, f2, f3, f4, f5, f6, f7, f8, a1, a2, a3, a4, a5, a6, a7, a8, a9, a10, a11, a12, a13, a14, a15, a16, a17, a18, a19, a20, a21, a22, a23⟩ := v
    exact br_t e (sy_240 (sy_KR k) H)
  · obtain ⟨f1, f2, f3, f4, f5, f6, f7, f8, a1, a2, a3, a4, a5, a6, a7, a8, a9, a10, a11, a12, a13, a14, a15, a16, a17, a18, a19, a20, a21, a22, a23⟩ := v
    exact br_f e (sy_240 (sy_KR k) H)
theorem sy_195 {post : Int32 → St0 → Prop} {mc ms kc ks : Nat} {z : Int32} {f1 f2 f3 f4 f5 f6 f7 f8 : Int32} {a1 a2 a3 a4 a5 a6 a7 a8 a9 a10 a11 a12 a13 a14 a15 a16 a17 a18 a19 a20 a21 a22 a23 : Nat → Int32} {m : Int32} (h : sy_R m (f1, f2, f3, f4, f5, f6, f7, f8, a1, a2, a3, a4, a5, a6, a7, a8, a9, a10, a11, a12, a13, a14, a15, a16, a17, a18, a19, a20, a21, a22, a23)) (H : post 1 ()) : wL_lawOf_195 post mc ms m z z kc ks f1 f2 f3 f4 f5 f6 f7 f8 a1 a2 a3 a4 a5 a6 a7 a8 a9 a10 a11 a12 a13 a14 a15 a16 a17 a18 a19 a20 a21 a22 a23 := by
  unfold wL_lawOf_195
  refine br_t rfl (sy_countWith h (fun e v k => ?_) (fun e v k => ?_))
  · obtain ⟨f1, f2, f3, f4, f5, f6, f7, f8, a1, a2, a3, a4, a5, a6, a7, a8, a9, a10, a11, a12, a13, a14, a15, a16, a17, a18, a19, a20, a21, a22, a23⟩ := v
    exact br_t e (sy_220 (sy_KR k) H)
  · obtain ⟨f1, f2, f3, f4, f5, f6, f7, f8, a1, a2, a3, a4, a5, a6, a7, a8, a9, a10, a11, a12, a13, a14, a15, a16, a17, a18, a19, a20, a21, a22, a23⟩ := v
    exact br_f e (sy_220 (sy_KR k) H)
theorem sy_176 {post : Int32 → St0 → Prop} {mc ms kc ks : Nat} {z : Int32} {f1 f2 f3 f4 f5 f6 f7 f8 : Int32} {a1 a2 a3 a4 a5 a6 a7 a8 a9 a10 a11 a12 a13 a14 a15 a16 a17 a18 a19 a20 a21 a22 a23 : Nat → Int32} {m : Int32} (h : sy_R m (f1, f2, f3, f4, f5, f6, f7, f8, a1, a2, a3, a4, a5, a6, a7, a8, a9, a10, a11, a12, a13, a14, a15, a16, a17, a18, a19, a20, a21, a22, a23)) (H : post 1 ()) : wL_lawOf_176 post mc ms m z z kc ks f1 f2 f3 f4 f5 f6 f7 f8 a1 a2 a3 a4 a5 a6 a7 a8 a9 a10 a11 a12 a13 a14 a15 a16 a17 a18 a19 a20 a21 a22 a23 := by
  unfold wL_lawOf_176
  refine br_t rfl (sy_decide h (fun e v k => ?_) (fun e v k => ?_))
  · obtain ⟨f1, f2, f3, f4, f5, f6, f7, f8, a1, a2, a3, a4, a5, a6, a7, a8, a9, a10, a11, a12, a13, a14, a15, a16, a17, a18, a19, a20, a21, a22, a23⟩ := v
    exact br_t e (sy_195 (sy_KR k) H)
  · obtain ⟨f1, f2, f3, f4, f5, f6, f7, f8, a1, a2, a3, a4, a5, a6, a7, a8, a9, a10, a11, a12, a13, a14, a15, a16, a17, a18, a19, a20, a21, a22, a23⟩ := v
    exact br_f e (sy_195 (sy_KR k) H)
theorem sy_159 {post : Int32 → St0 → Prop} {mc ms kc ks : Nat} {f1 f2 f3 f4 f5 f6 f7 f8 : Int32} {a1 a2 a3 a4 a5 a6 a7 a8 a9 a10 a11 a12 a13 a14 a15 a16 a17 a18 a19 a20 a21 a22 a23 : Nat → Int32} {m : Int32} (h : sy_R m (f1, f2, f3, f4, f5, f6, f7, f8, a1, a2, a3, a4, a5, a6, a7, a8, a9, a10, a11, a12, a13, a14, a15, a16, a17, a18, a19, a20, a21, a22, a23)) (H : post 1 ()) : wL_lawOf_159 post mc ms m kc ks f1 f2 f3 f4 f5 f6 f7 f8 a1 a2 a3 a4 a5 a6 a7 a8 a9 a10 a11 a12 a13 a14 a15 a16 a17 a18 a19 a20 a21 a22 a23 := by
  unfold wL_lawOf_159
  refine sy_matched h (fun e v k => ?_) (fun e v k => ?_)
  · obtain ⟨f1, f2, f3, f4, f5, f6, f7, f8, a1, a2, a3, a4, a5, a6, a7, a8, a9, a10, a11, a12, a13, a14, a15, a16, a17, a18, a19, a20, a21, a22, a23⟩ := v
    exact br_t e (sy_176 (sy_KR k) H)
  · obtain ⟨f1, f2, f3, f4, f5, f6, f7, f8, a1, a2, a3, a4, a5, a6, a7, a8, a9, a10, a11, a12, a13, a14, a15, a16, a17, a18, a19, a20, a21, a22, a23⟩ := v
    exact br_f e (sy_176 (sy_KR k) H)
theorem sy_put {post : Int32 → St2 → Prop} {f1 f2 f4 f5 f6 f7 f8 : Int32} {a1 a2 a3 a4 a5 a6 a7 a8 a9 a10 a11 a12 a13 a14 a15 a16 a17 a18 a19 a20 a21 a22 a23 : Nat → Int32} (H : post 1 (f1, f2, 1, f4, f5, f6, f7, 0, upd a1 0 f1, upd a2 0 f2, upd (upd a3 0 (a21 0)) 1 (a21 1), upd (upd a4 0 (a22 0)) 1 (a22 1), upd (upd a5 0 (a23 0)) 1 (a23 1), upd a6 0 2, a7, a8, a9, a10, a11, a12, a13, a14, a15, a16, a17, a18, a19, a20, a21, a22, a23)) : wpX_put post (f1, f2, 0, f4, f5, f6, f7, f8, a1, a2, a3, a4, a5, a6, a7, a8, a9, a10, a11, a12, a13, a14, a15, a16, a17, a18, a19, a20, a21, a22, a23) 0 2 := by
  unfold wpX_put
  dsimp only
  refine br_f (by decide) (br_t (by decide) (sy_isAct (by decide) (by decide) (br_f (by decide) (br_f (by decide) ⟨1, br_t (by decide) ⟨pk_in 0 13 (by omega), nm_e ⟨pk_in 0 13 (by omega), nm_e ⟨pk_in 0 13 (by omega), nm_e ⟨3, ?_⟩⟩⟩⟩⟩))))
  refine br_f (by decide) ⟨pk_in 0 2 (by omega), pk_in 0 26 (by omega), nm_r (e' := upd a3 0 (a21 0)) rfl ⟨pk_in 0 2 (by omega), pk_in 0 26 (by omega), nm_r (e' := upd a4 0 (a22 0)) rfl ⟨pk_in 0 2 (by omega), pk_in 0 26 (by omega), nm_r (e' := upd a5 0 (a23 0)) rfl (nm_r (e' := 1) (by decide) ?_)⟩⟩⟩
  refine br_f (by decide) ⟨pk_in 1 2 (by omega), pk_in 1 26 (by omega), nm_r (e' := upd (upd a3 0 (a21 0)) 1 (a21 1)) rfl ⟨pk_in 1 2 (by omega), pk_in 1 26 (by omega), nm_r (e' := upd (upd a4 0 (a22 0)) 1 (a22 1)) rfl ⟨pk_in 1 2 (by omega), pk_in 1 26 (by omega), nm_r (e' := upd (upd a5 0 (a23 0)) 1 (a23 1)) rfl (nm_r (e' := 2) (by decide) ?_)⟩⟩⟩
  exact br_t (by decide) (nm_r (e' := 1) (by decide) H)
theorem sy_arg0 {post : Int32 → St2 → Prop} {f1 f2 f3 f4 f5 f6 f7 f8 : Int32} {a1 a2 a3 a4 a5 a6 a7 a8 a9 a10 a11 a12 a13 a14 a15 a16 a17 a18 a19 a20 a21 a22 a23 : Nat → Int32} {x : Int32} (H : post 0 (f1, f2, f3, f4, f5, f6, f7, f8, a1, a2, a3, a4, a5, a6, a7, a8, a9, a10, a11, a12, a13, a14, a15, a16, a17, a18, a19, upd a20 0 x, a21, a22, a23)) : wpX_argument post (f1, f2, f3, f4, f5, f6, f7, f8, a1, a2, a3, a4, a5, a6, a7, a8, a9, a10, a11, a12, a13, a14, a15, a16, a17, a18, a19, a20, a21, a22, a23) 0 x := by
  unfold wpX_argument
  dsimp only
  exact br_t rfl ⟨pk_in 0 2 (by omega), nm_e H⟩
theorem sy_arg1 {post : Int32 → St2 → Prop} {f1 f2 f3 f4 f5 f6 f7 f8 : Int32} {a1 a2 a3 a4 a5 a6 a7 a8 a9 a10 a11 a12 a13 a14 a15 a16 a17 a18 a19 a20 a21 a22 a23 : Nat → Int32} {x : Int32} (H : post 0 (f1, f2, f3, f4, f5, f6, f7, f8, a1, a2, a3, a4, a5, a6, a7, a8, a9, a10, a11, a12, a13, a14, a15, a16, a17, a18, a19, upd a20 1 x, a21, a22, a23)) : wpX_argument post (f1, f2, f3, f4, f5, f6, f7, f8, a1, a2, a3, a4, a5, a6, a7, a8, a9, a10, a11, a12, a13, a14, a15, a16, a17, a18, a19, a20, a21, a22, a23) 1 x := by
  unfold wpX_argument
  dsimp only
  exact br_f (by decide) (br_t rfl ⟨pk_in 1 2 (by omega), nm_e H⟩)
/-- what the rule answers -/
def sy_M (w k v : Nat → Int32) (x y : Int32) (j : Nat) : Int32 := sy_cmp (w j &&& 7) (((if (w j) >>> ((3 : Int32) &&& 31) = 1 then y else x)) &&& k j) (v j)
theorem sy_MM {a3 a4 a5 a20 : Nat → Int32} {w k v : Nat → Int32} {x y : Int32} (j : Nat) (hs : vp_in ((w j) >>> ((3 : Int32) &&& 31)) 2) (e3 : a3 j = w j) (e4 : a4 j = k j) (e5 : a5 j = v j) : sy_cmp (a3 j &&& 7) ((upd (upd a20 0 x) 1 y ((a3 j) >>> ((3 : Int32) &&& 31)).toNatClampNeg) &&& (a4 j)) (a5 j) = sy_M w k v x y j := by
  rw [e3, e4, e5]
  unfold sy_M
  obtain ⟨i, hi, e⟩ := vp_in_of hs (by omega)
  rw [e]
  have hi' : i = 0 ∨ i = 1 := by omega
  rcases hi' with rfl | rfl
  · rfl
  · rfl
theorem sy_80 {post : Int32 → St0 → Prop} {mc ms kc ks : Nat} {x1 x2 x3 x4 x5 x7 x8 z : Int32} {f5 f6 f7 f8 : Int32} {a1 a2 a3 a4 a5 a6 a7 a8 a9 a10 a11 a12 a13 a14 a15 a16 a17 a18 a19 a20 a21 a22 a23 : Nat → Int32} (s0 : vp_in ((a21 0) >>> ((3 : Int32) &&& 31)) 2) (s1 : vp_in ((a21 1) >>> ((3 : Int32) &&& 31)) 2) (t0 : ¬ a21 0 &&& 7 = 7) (t1 : ¬ a21 1 &&& 7 = 7) {m : Int32}
    (hm : sy_and (sy_M a21 a22 a23 x4 x5 0) (sy_M a21 a22 a23 x4 x5 1) = m)
    (c7 : x7 = 0 → m = 1) (c8 : x8 = 0 → m = 1) (c0 : ¬ x7 = 0 → ¬ x8 = 0 → x1 &&& 8 = 0 → sy_cmp (x1 &&& 7) (x4 &&& x2) x3 = m) (c1 : ¬ x7 = 0 → ¬ x8 = 0 → ¬ x1 &&& 8 = 0 → sy_cmp (x1 &&& 7) (x5 &&& x2) x3 = m)
    (H : post 1 ()) : wL_lawOf_80 post mc ms x1 x2 x3 x4 x5 x7 x8 z z kc ks 0 31 0 0 f5 f6 f7 f8 a1 a2 a3 a4 a5 a6 a7 a8 a9 a10 a11 a12 a13 a14 a15 a16 a17 a18 a19 a20 a21 a22 a23 := by
  unfold wL_lawOf_80
  refine br_t rfl (sy_put ?_)
  refine br_t rfl (sy_arg0 ?_)
  refine br_t rfl (sy_arg1 ?_)
  refine br_t rfl ?_
  have hR : sy_R m (0, 31, 1, 0, f5, f6, f7, 0, upd a1 0 0, upd a2 0 31, upd (upd a3 0 (a21 0)) 1 (a21 1), upd (upd a4 0 (a22 0)) 1 (a22 1), upd (upd a5 0 (a23 0)) 1 (a23 1), upd a6 0 2, a7, a8, a9, a10, a11, a12, a13, a14, a15, a16, a17, a18, a19, upd (upd a20 0 x4) 1 x5, a21, a22, a23) := by
    have q := sy_fresh (f1 := 0) (f2 := 31) (f5 := f5) (f6 := f6) (f7 := f7) (a1 := upd a1 0 0) (a2 := upd a2 0 31) (a3 := upd (upd a3 0 (a21 0)) 1 (a21 1)) (a4 := upd (upd a4 0 (a22 0)) 1 (a22 1)) (a5 := upd (upd a5 0 (a23 0)) 1 (a23 1)) (a6 := upd a6 0 2) (a7 := a7) (a8 := a8) (a9 := a9) (a10 := a10) (a11 := a11) (a12 := a12) (a13 := a13) (a14 := a14) (a15 := a15) (a16 := a16) (a17 := a17) (a18 := a18) (a19 := a19) (a20 := upd (upd a20 0 x4) 1 x5) (a21 := a21) (a22 := a22) (a23 := a23) pk_us pk_us pk_us s0 s1 t0 t1
    rw [sy_MM (a3 := upd (upd a3 0 (a21 0)) 1 (a21 1)) (a4 := upd (upd a4 0 (a22 0)) 1 (a22 1)) (a5 := upd (upd a5 0 (a23 0)) 1 (a23 1)) (w := a21) (k := a22) (v := a23) 0 s0 rfl rfl rfl, sy_MM (a3 := upd (upd a3 0 (a21 0)) 1 (a21 1)) (a4 := upd (upd a4 0 (a22 0)) 1 (a22 1)) (a5 := upd (upd a5 0 (a23 0)) 1 (a23 1)) (w := a21) (k := a22) (v := a23) 1 s1 rfl rfl rfl, hm] at q
    exact q
  refine br_c (fun e7 => ?_) (fun e7 => br_c (fun e8 => ?_) (fun e8 => br_c (fun e => ?_) (fun e => ?_)))
  · rw [c7 e7] at hR
    exact sy_159 hR H
  · rw [c8 e8] at hR
    exact sy_159 hR H
  · unfold wL_lawOf_151
    refine sy_compares ?_
    rw [c0 e7 e8 e]
    exact sy_159 hR H
  · unfold wL_lawOf_151
    refine sy_compares ?_
    rw [c1 e7 e8 e]
    exact sy_159 hR H
/-- nothing is asked: the rule holds -/
theorem sy_M0 {w k v : Nat → Int32} {x y : Int32} {j : Nat} (h : w j = 0) : sy_M w k v x y j = 1 := by
  unfold sy_M
  rw [h]
  rfl
theorem sy_Mc {w k v : Nat → Int32} {x y a b c : Int32} {j : Nat} (h0 : ¬ a < 0) (h15 : ¬ 15 < a) (e1 : w j = a) (e2 : k j = b) (e3 : v j = c) : (a &&& 8 = 0 → sy_cmp (a &&& 7) (x &&& b) c = sy_M w k v x y j) ∧ (¬ a &&& 8 = 0 → sy_cmp (a &&& 7) (y &&& b) c = sy_M w k v x y j) := by
  unfold sy_M
  rw [e1, e2, e3]
  constructor
  · intro e
    rw [(sy_what h0 h15).1 e]
    rfl
  · intro e
    rw [(sy_what h0 h15).2 e]
    rfl
theorem sy_M01 (w k v : Nat → Int32) (x y : Int32) (j : Nat) : sy_M w k v x y j = 0 ∨ sy_M w k v x y j = 1 := sy_cmp01 _ _ _
end
section
theorem sy_zs {a : Int32} (h : a = 0) : vp_in (a >>> ((3 : Int32) &&& 31)) 2 := by
  rw [h]
  exact pk_in 0 2 (by omega) (by decide)
theorem sy_zt {a : Int32} (h : a = 0) : ¬ a &&& 7 = 7 := by
  rw [h]
  decide
theorem sy_80z {post : Int32 → St0 → Prop} {mc ms kc ks : Nat} {x1 x2 x3 x4 x5 x7 x8 z : Int32} {f5 f6 f7 f8 : Int32} {a1 a2 a3 a4 a5 a6 a7 a8 a9 a10 a11 a12 a13 a14 a15 a16 a17 a18 a19 a20 a21 a22 a23 : Nat → Int32} (h0 : a21 0 = 0) (h1 : a21 1 = 0) (c : x7 = 0 ∨ x8 = 0) (H : post 1 ()) : wL_lawOf_80 post mc ms x1 x2 x3 x4 x5 x7 x8 z z kc ks 0 31 0 0 f5 f6 f7 f8 a1 a2 a3 a4 a5 a6 a7 a8 a9 a10 a11 a12 a13 a14 a15 a16 a17 a18 a19 a20 a21 a22 a23 :=
  sy_80 (m := 1) (sy_zs h0) (sy_zs h1) (sy_zt h0) (sy_zt h1) (by rw [sy_M0 h0, sy_M0 h1]; rfl) (fun _ => rfl) (fun _ => rfl) (fun z7 z8 _ => absurd c (fun t => t.elim z7 z8)) (fun z7 z8 _ => absurd c (fun t => t.elim z7 z8)) H
theorem sy_49 {post : Int32 → St0 → Prop} {mc ms kc ks : Nat} {x0 x1 x2 x3 x4 x5 x7 z0 : Int32} {f5 f6 f7 f8 : Int32} {a1 a2 a3 a4 a5 a6 a7 a8 a9 a10 a11 a12 a13 a14 a15 a16 a17 a18 a19 a20 a21 a22 a23 : Nat → Int32} (h0 : a21 0 = 0) (h1 : a21 1 = 0)
    (c7 : (x7 = 0 ∧ ¬ x0 = 0 ∧ ¬ x0 = 1) ∨ (x7 = 1 ∧ (x0 = 0 ∨ x0 = 1))) (cz : (z0 = 0 ∧ (x1 < 0 ∨ 15 < x1 ∨ x1 &&& 7 = 7)) ∨ (z0 = 1 ∧ ¬ x1 < 0 ∧ ¬ 15 < x1 ∧ ¬ x1 &&& 7 = 7)) (H : post 1 ()) : wL_lawOf_49 post mc ms x0 x1 x2 x3 x4 x5 x7 z0 kc ks 0 31 0 0 f5 f6 f7 f8 a1 a2 a3 a4 a5 a6 a7 a8 a9 a10 a11 a12 a13 a14 a15 a16 a17 a18 a19 a20 a21 a22 a23 := by
  unfold wL_lawOf_49
  unfold wpX_condition
  dsimp only
  rcases c7 with ⟨rfl, n0, n1⟩ | ⟨rfl, c01⟩
  · exact br_f n0 (br_f n1 (br_t rfl (sy_80z h0 h1 (Or.inl rfl) H)))
  · rcases cz with ⟨rfl, bad⟩ | ⟨rfl, g0, g15, g7⟩
    · have T : wL_lawOf_80 post mc ms x1 x2 x3 x4 x5 1 0 (-2) (-2) kc ks 0 31 0 0 f5 f6 f7 f8 a1 a2 a3 a4 a5 a6 a7 a8 a9 a10 a11 a12 a13 a14 a15 a16 a17 a18 a19 a20 a21 a22 a23 := sy_80z h0 h1 (Or.inr rfl) H
      have W : ∀ (Q : Int32 → St2 → Prop), Q (-2) (0, 31, 0, 0, f5, f6, f7, f8, a1, a2, a3, a4, a5, a6, a7, a8, a9, a10, a11, a12, a13, a14, a15, a16, a17, a18, a19, a20, a21, a22, a23) → wX_condition_11 Q x0 x1 x2 x3 0 31 0 0 f5 f6 f7 f8 a1 a2 a3 a4 a5 a6 a7 a8 a9 a10 a11 a12 a13 a14 a15 a16 a17 a18 a19 a20 a21 a22 a23 := by
        intro Q hQ
        unfold wX_condition_11
        rcases bad with b | b | b
        · exact br_t b hQ
        · exact br_c (fun _ => hQ) (fun _ => br_t b hQ)
        · exact br_c (fun _ => hQ) (fun _ => br_c (fun _ => hQ) (fun _ => br_t b hQ))
      refine br_c (fun _ => W _ (br_f (by decide) (br_t rfl T))) (fun z => br_t (c01.elim (fun e => absurd e z) id) (W _ (br_f (by decide) (br_t rfl T))))
    · rcases c01 with rfl | rfl
      · refine br_t rfl ?_
        unfold wX_condition_11
        refine br_f g0 (br_f g15 (br_f g7 ⟨pk_in 0 2 (by omega), nm_r (e' := upd a21 0 x1) rfl ⟨pk_in 0 2 (by omega), nm_r (e' := upd a22 0 x2) rfl ⟨pk_in 0 2 (by omega), nm_r (e' := upd a23 0 x3) rfl (br_f (by decide) (br_f (by decide) ?_))⟩⟩⟩))
        have k1 : upd a21 0 x1 1 = 0 := by rw [pk_un (by omega), h1]
        have q := sy_Mc (w := upd a21 0 x1) (k := upd a22 0 x2) (v := upd a23 0 x3) (x := x4) (y := x5) (j := 0) g0 g15 pk_us pk_us pk_us
        refine sy_80 (m := sy_M (upd a21 0 x1) (upd a22 0 x2) (upd a23 0 x3) x4 x5 0) ?_ (sy_zs k1) ?_ (sy_zt k1) ?_ (fun z => absurd z (by decide)) (fun z => absurd z (by decide)) (fun _ _ => q.1) (fun _ _ => q.2) H
        · show vp_in ((upd a21 0 x1 0) >>> ((3 : Int32) &&& 31)) 2
          rw [pk_us]
          exact sy_sh2 g0 g15
        · show ¬ (upd a21 0 x1 0) &&& 7 = 7
          rw [pk_us]
          exact g7
        · rw [sy_M0 (j := 1) k1]
          exact sy_and1r _ (sy_M01 _ _ _ _ _ _)
      · refine br_f (by decide) (br_t rfl ?_)
        unfold wX_condition_11
        refine br_f g0 (br_f g15 (br_f g7 ⟨pk_in 1 2 (by omega), nm_r (e' := upd a21 1 x1) rfl ⟨pk_in 1 2 (by omega), nm_r (e' := upd a22 1 x2) rfl ⟨pk_in 1 2 (by omega), nm_r (e' := upd a23 1 x3) rfl (br_f (by decide) (br_f (by decide) ?_))⟩⟩⟩))
        have k0 : upd a21 1 x1 0 = 0 := by rw [pk_un (by omega), h0]
        have q := sy_Mc (w := upd a21 1 x1) (k := upd a22 1 x2) (v := upd a23 1 x3) (x := x4) (y := x5) (j := 1) g0 g15 pk_us pk_us pk_us
        refine sy_80 (m := sy_M (upd a21 1 x1) (upd a22 1 x2) (upd a23 1 x3) x4 x5 1) (sy_zs k0) ?_ (sy_zt k0) ?_ ?_ (fun z => absurd z (by decide)) (fun z => absurd z (by decide)) (fun _ _ => q.1) (fun _ _ => q.2) H
        · show vp_in ((upd a21 1 x1 1) >>> ((3 : Int32) &&& 31)) 2
          rw [pk_us]
          exact sy_sh2 g0 g15
        · show ¬ (upd a21 1 x1 1) &&& 7 = 7
          rw [pk_us]
          exact g7
        · rw [sy_M0 (j := 0) k0]
          exact sy_and1l _ (sy_M01 _ _ _ _ _ _)
theorem sy_23 {post : Int32 → St0 → Prop} {mc ms kc ks : Nat} {x0 x1 x2 x3 x4 x5 x7 : Int32} {f5 f6 f7 f8 : Int32} {a1 a2 a3 a4 a5 a6 a7 a8 a9 a10 a11 a12 a13 a14 a15 a16 a17 a18 a19 a20 a21 a22 a23 : Nat → Int32} (h0 : a21 0 = 0) (h1 : a21 1 = 0)
    (c7 : (x7 = 0 ∧ ¬ x0 = 0 ∧ ¬ x0 = 1) ∨ (x7 = 1 ∧ (x0 = 0 ∨ x0 = 1))) (H : post 1 ()) : wL_lawOf_23 post mc ms x0 x1 x2 x3 x4 x5 x7 kc ks 0 31 0 0 f5 f6 f7 f8 a1 a2 a3 a4 a5 a6 a7 a8 a9 a10 a11 a12 a13 a14 a15 a16 a17 a18 a19 a20 a21 a22 a23 := by
  unfold wL_lawOf_23
  unfold wL_lawOf_48
  exact br_c (fun b => sy_49 h0 h1 c7 (Or.inl ⟨rfl, Or.inl b⟩) H) (fun g0 => br_c (fun b => sy_49 h0 h1 c7 (Or.inl ⟨rfl, Or.inr (Or.inl b)⟩) H) (fun g15 => br_c (fun b => sy_49 h0 h1 c7 (Or.inl ⟨rfl, Or.inr (Or.inr b)⟩) H) (fun g7 => sy_49 h0 h1 c7 (Or.inr ⟨rfl, g0, g15, g7⟩) H)))
theorem sy_lawOf {post : Int32 → St0 → Prop} (p0 p1 p2 p3 p4 p5 : Int32) (H : post 1 ()) : wpL_lawOf post 764 12208 () p0 p1 p2 p3 p4 p5 := by
  refine ⟨by omega, by omega, 763, 12177, by omega, by omega, ?_⟩
  unfold wpX_init
  dsimp only
  iterate 46 refine ⟨by omega, ?_⟩
  refine br_c (fun e => ?_) (fun e => br_c (fun e' => ?_) (fun e' => ?_))
  · unfold wL_lawOf_18
    exact sy_23 rfl rfl (Or.inr ⟨rfl, Or.inl e⟩) H
  · unfold wL_lawOf_18
    exact sy_23 rfl rfl (Or.inr ⟨rfl, Or.inr e'⟩) H
  · exact sy_23 rfl rfl (Or.inl ⟨rfl, e, e'⟩) H
theorem sy_cell {post : Int32 → Prop} {L : Nat} {xs : Nat → Int32} (k : Nat) {x : Int32} (hx : x = nI k) (hL : L ≤ 6) (hk : k < 6) (H : ∀ r, post r) : wpL_cellAt post L xs () x := by
  subst hx
  exact pk_le L k (fun _ => H 0) (fun z => ⟨pk_in k L z, H _⟩)
theorem i_vc (xs : Nat → Int32) (L : Nat) (hL : L ≤ 6) : wpL_law (fun r => r = 1) L xs := by
  unfold wpL_law
  exact sy_cell 0 rfl hL (by omega) (fun r1 => sy_cell 1 rfl hL (by omega) (fun r2 => sy_cell 2 rfl hL (by omega) (fun r3 => sy_cell 3 rfl hL (by omega) (fun r4 => sy_cell 4 rfl hL (by omega) (fun r5 => sy_cell 5 rfl hL (by omega) (fun r6 => ⟨764, 12208, by omega, by omega, sy_lawOf r1 r2 r3 r4 r5 r6 rfl⟩))))))
end
