section
/-! part 01: the picture; isRule, isField, isValue, isAllowed; init; allow -/
def cc_lo (f : Nat) : Nat := if f = 2 then 1 else if f = 3 then 1 else 0
def cc_hi (f : Nat) : Nat := if f = 0 then 59 else if f = 1 then 23 else if f = 2 then 31 else if f = 3 then 12 else 6
/-- the word of bits with the one value w -/
def cc_w (w : Nat) : Int64 := (0 : Int64) ||| ((1 : Int64) <<< ((nI w).toInt64 &&& 63))
/-- place k: none: full; some w: the value w alone -/
def cc_F (a1 : Nat → Int64) (a2 : Nat → Int32) (k : Nat) (o : Option Nat) : Prop := (o = none → a2 k = 1) ∧ (∀ w, o = some w → w < 60 ∧ a2 k = 0 ∧ a1 k = cc_w w)
def cc_ok (o : Option Nat) (v : Nat) : Prop := ∀ w, o = some w → w = v
def cc_K (g : Nat → Option Nat) (a1 : Nat → Int64) (a2 a3 a4 : Nat → Int32) : Prop := (∀ k, k < 20 → cc_F a1 a2 k (g k)) ∧ (∀ f, f < 5 → a3 f = nI (cc_lo f)) ∧ (∀ f, f < 5 → a4 f = nI (cc_hi f))
def cc_up (g : Nat → Option Nat) (k v : Nat) : Nat → Option Nat := fun j => if j = k then some v else g j
theorem cc_ok_n {o : Option Nat} {v : Nat} (h : o = none) : cc_ok o v := fun w e => absurd (e.symm.trans h) (Option.some_ne_none w)
theorem cc_ok_s {o : Option Nat} {w v : Nat} (h : o = some w) : cc_ok o v ↔ w = v := by
  subst h
  exact ⟨fun k => k w rfl, fun e u z => by injection z with z; rw [← z]; exact e⟩
theorem cc_hi60 (f : Nat) : cc_hi f < 60 := by
  unfold cc_hi
  repeat (first | omega | split)
theorem cc_bit : ∀ w, w < 60 → ∀ v, v < 60 → ((((cc_w w).toUInt64 >>> ((nI v).toInt64.toUInt64 &&& Int64.toUInt64 63)).toInt64 &&& 1) = 1 ↔ w = v) := by decide +kernel
theorem cc_at (r f : Nat) : (5 : Int32) * nI r + nI f = nI (5 * r + f) := by
  rw [show (5 : Int32) = nI 5 from rfl, pk_mul, nI_add]
theorem cc_isRule {post : Int32 → Prop} {r : Nat} (hr : r < 4) (H : post 1) : wpX_isRule post () (nI r) :=
  br_f (nI_pos (by omega)) (br_f (nI_ge (b := 4) hr (by decide)) H)
theorem cc_isField {post : Int32 → Prop} {r : Nat} (hr : r < 5) (H : post 1) : wpX_isField post () (nI r) :=
  br_f (nI_pos (by omega)) (br_f (nI_ge (b := 5) hr (by decide)) H)
theorem cc_isValue {post : Int32 → Prop} {y m d : Int32} {a1 : Nat → Int64} {a2 a3 a4 : Nat → Int32} {g : Nat → Option Nat} (K : cc_K g a1 a2 a3 a4) {f v : Nat} (hf : f < 5) (h1 : cc_lo f ≤ v) (h2 : v ≤ cc_hi f) (H : post 1) :
    wpX_isValue post (y, m, d, a1, a2, a3, a4) (nI f) (nI v) := by
  have h60 := cc_hi60 f
  unfold wpX_isValue
  dsimp only
  rw [nI_clamp (show f < 2 ^ 31 by omega), K.2.1 f hf, K.2.2 f hf]
  exact ⟨pk_in f 5 hf, pk_lt v (cc_lo f) (fun z => absurd z (by omega)) (fun _ => ⟨pk_in f 5 hf, pk_lt (cc_hi f) v (fun z => absurd z (by omega)) (fun _ => H)⟩)⟩
theorem cc_isAllowed {post : Int32 → Prop} {y m d : Int32} {a1 : Nat → Int64} {a2 a3 a4 : Nat → Int32} {g : Nat → Option Nat} (K : cc_K g a1 a2 a3 a4) {r : Nat} (f v : Nat) (hr : r < 4) (hf : f < 5) (h1 : cc_lo f ≤ v) (h2 : v ≤ cc_hi f)
    (Ht : cc_ok (g (5 * r + f)) v → post 1) (Hf : ¬ cc_ok (g (5 * r + f)) v → post 0) :
    wpX_isAllowed post (y, m, d, a1, a2, a3, a4) (nI r) (nI f) (nI v) := by
  have h60 := cc_hi60 f
  unfold wpX_isAllowed
  dsimp only
  refine nm_r (cc_at r f) (cc_isValue K hf h1 h2 (br_f (by decide) ⟨pk_in (5 * r + f) 20 (by omega), ?_⟩))
  rw [nI_clamp (show 5 * r + f < 2 ^ 31 by omega)]
  obtain ⟨k1, k2⟩ := K.1 (5 * r + f) (by omega)
  cases e : g (5 * r + f) with
  | none =>
    rw [k1 e]
    exact br_f (by decide) (Ht (cc_ok_n e))
  | some w =>
    obtain ⟨q0, q1, q2⟩ := k2 w e
    rw [q1, q2]
    exact br_t rfl ⟨pk_in (5 * r + f) 20 (by omega), ek_if (cc_bit w q0 v (by omega)) (fun z => Ht ((cc_ok_s e).mpr z)) (fun z => Hf (fun q => z ((cc_ok_s e).mp q)))⟩
/-! the constructor -/
theorem cc_lows : ∀ f, f < 5 → upd (upd (fun _ => 0) 2 1) 3 1 f = nI (cc_lo f) := by decide +kernel
theorem cc_highs : ∀ f, f < 5 → upd (upd (upd (upd (upd (fun _ => 0) 0 59) 1 23) 2 31) 3 12) 4 6 f = nI (cc_hi f) := by decide +kernel
theorem cc_init {post : St2 → Prop} {mc ms : Nat} (h1 : 4 ≤ mc) (h2 : 50 ≤ ms) (H : ∀ y m d a1 a2 a3 a4, cc_K (fun _ => none) a1 a2 a3 a4 → post (y, m, d, a1, a2, a3, a4)) : wpX_init post mc ms (0, 0, 0) := by
  unfold wpX_init
  dsimp only
  refine ⟨by omega, by omega, by omega, by omega, by omega, by omega, by omega, by omega, ?_⟩
  exact pk_loop (fun n i s => wX_init_36 post mc ms 4 50 0 0 0 n (nI i) (fun _ => 0) s (fun _ => 0) (fun _ => 0)) (fun i s => ∀ j, j < i → s j = 1) 20 0 (fun _ => 0) (by omega) (fun j hj => absurd hj (by omega))
    (fun n s h => pk_le 20 20 (fun _ => nm_e (nm_e (nm_e (nm_e (nm_e (nm_e (nm_e (H _ _ _ _ _ _ _ ⟨fun k hk => ⟨fun _ => h k hk, fun w e => absurd e.symm (Option.some_ne_none w)⟩, cc_lows, cc_highs⟩)))))))) (fun z => absurd z (by omega)))
    (fun n i s hi h hw => pk_le 20 i (fun z => absurd z (by omega)) (fun _ => ⟨pk_in i 20 hi, nm_e (nm_r (nI_1 i) (hw _ (by
      intro j hj
      rw [nI_clamp (show i < 2 ^ 31 by omega)]
      by_cases e : j = i
      · rw [e, pk_us]
      · rw [pk_un e]
        exact h j (by omega))))⟩))
/-! allow, on a field that is full -/
theorem cc_sp6 : ∀ v, v < 60 → ((65 : Int32) * nI v) >>> ((6 : Int32) &&& 31) = nI v := by decide +kernel
theorem cc_sp63 : ∀ v, v < 60 → ((65 : Int32) * nI v) &&& 63 = nI v := by decide +kernel
theorem cc_spp : ∀ v, v < 60 → ¬ ((65 : Int32) * nI v) < 0 := by decide +kernel
theorem cc_wh3 : ∀ r, r < 4 → ∀ f, f < 5 → nI (8 * r + f) >>> ((3 : Int32) &&& 31) = nI r := by decide +kernel
theorem cc_wh7 : ∀ r, r < 4 → ∀ f, f < 5 → nI (8 * r + f) &&& 7 = nI f := by decide +kernel
theorem cc_178 {post : Int32 → St2 → Prop} {y m d : Int32} {a1 : Nat → Int64} {a2 a3 a4 : Nat → Int32} {k : Nat} (hk : k < 20) (H : ∀ r, post r (y, m, d, a1, a2, a3, a4)) : ∃ n, wX_allow_178 post (nI k) y m d a1 a2 a3 a4 n 0 0 :=
  pk_loop (fun n i s => wX_allow_178 post (nI k) y m d a1 a2 a3 a4 n s (nI i)) (fun _ _ => True) 60 0 (0 : Int32) (by omega) trivial
    (fun n s _ => pk_le 60 60 (fun _ => H s) (fun z => absurd z (by omega)))
    (fun n i s hi _ hw => pk_le 60 i (fun z => absurd z (by omega)) (fun _ => ⟨pk_in k 20 hk, nm_e (nm_r (nI_1 i) (hw _ trivial))⟩))
theorem cc_K_up {g : Nat → Option Nat} {a1 : Nat → Int64} {a2 a3 a4 : Nat → Int32} (K : cc_K g a1 a2 a3 a4) {k v : Nat} (hv : v < 60) :
    cc_K (cc_up g k v) (vp_updL (vp_updL a1 k 0) k (vp_updL a1 k 0 k ||| ((1 : Int64) <<< ((nI v).toInt64 &&& 63)))) (upd a2 k 0) a3 a4 := by
  refine ⟨fun j hj => ?_, K.2.1, K.2.2⟩
  by_cases e : j = k
  · subst e
    have e1 : cc_up g j v j = some v := if_pos rfl
    rw [e1]
    refine ⟨fun z => absurd z (Option.some_ne_none v), fun w z => ?_⟩
    injection z with z
    subst z
    refine ⟨hv, pk_us, ?_⟩
    rw [pk_uLs, pk_uLs]
    rfl
  · have e1 : cc_up g k v j = g j := if_neg e
    rw [e1]
    obtain ⟨p, q⟩ := K.1 j hj
    refine ⟨fun z => ?_, fun w z => ?_⟩
    · rw [pk_un e]
      exact p z
    · rw [pk_un e, pk_uLn e, pk_uLn e]
      exact q w z
theorem cc_allow {post : Int32 → St2 → Prop} {y m d p0 : Int32} {a1 : Nat → Int64} {a2 a3 a4 : Nat → Int32} {g : Nat → Option Nat} (K : cc_K g a1 a2 a3 a4) (r f v : Nat) (hr : r < 4) (hf : f < 5) (h1 : cc_lo f ≤ v) (h2 : v ≤ cc_hi f) (hg : g (5 * r + f) = none)
    (H : ∀ r' a1' a2', cc_K (cc_up g (5 * r + f) v) a1' a2' a3 a4 → post r' (y, m, d, a1', a2', a3, a4)) (hp : p0 = nI (8 * r + f) := by rfl) :
    wpX_allow post (y, m, d, a1, a2, a3, a4) p0 (65 * nI v) 1 := by
  subst hp
  have h60 := cc_hi60 f
  have hv : v < 60 := by omega
  have hk : 5 * r + f < 20 := by omega
  have ha2 : a2 (5 * r + f) = 1 := (K.1 (5 * r + f) hk).1 hg
  unfold wpX_allow
  dsimp only
  refine nm_r (cc_wh3 r hr f hf) (nm_r (cc_wh7 r hr f hf) (br_f (nI_pos (by omega)) (cc_isRule hr (br_f (by decide) (cc_isField hf (br_f (by decide) (nm_r (cc_sp6 v hv) (nm_r (cc_sp63 v hv) (br_f (cc_spp v hv) ?_)))))))))
  refine cc_isValue K hf h1 h2 (br_f (by decide) (cc_isValue K hf h1 h2 (br_f (by decide) (br_t (nI_le (Nat.le_refl v) (by omega)) (br_f (by decide) (br_t (by decide) (nm_r (cc_at r f) ⟨pk_in _ 20 hk, ?_⟩)))))))
  rw [nI_clamp (show 5 * r + f < 2 ^ 31 by omega), ha2]
  refine br_f (by decide) ⟨pk_in _ 20 hk, nm_e ⟨pk_in _ 20 hk, nm_e ⟨2, ?_⟩⟩⟩
  refine br_f (nI_nlt (Nat.le_refl v) (by omega)) ⟨pk_in _ 20 hk, pk_in _ 20 hk, nm_e (nm_r (nI_1 v) (br_t (nI_lt (Nat.lt_succ_self v) (by omega)) (cc_178 hk (fun r' => ?_))))⟩
  rw [nI_clamp (show 5 * r + f < 2 ^ 31 by omega)]
  exact H _ _ _ (cc_K_up K hv)
end
section
/-! part 02: the calendar: daysBefore, yearOf, isLeap, lengthOf, split -/
def cc_db (k : Nat) : Nat := 365 * k + (k + 3) / 4 - (k + 99) / 100 + (k + 399) / 400
abbrev cc_lp (y : Nat) : Prop := y % 4 = 0 ∧ (¬ y % 100 = 0 ∨ y % 400 = 0)
def cc_ln (y m : Nat) : Nat := if m = 2 then (if cc_lp y then 29 else 28) else if m = 4 ∨ m = 6 ∨ m = 9 ∨ m = 11 then 30 else 31
/-- the days before month i + 1 -/
def cc_cu (y : Nat) : Nat → Nat
  | 0 => 0
  | i + 1 => cc_cu y i + cc_ln y (i + 1)
theorem cc_dbS : ∀ k, k < 400 → cc_db (k + 1) = cc_db k + 365 + (if cc_lp (2000 + k) then 1 else 0) := by decide +kernel
theorem cc_db366 : ∀ k, k < 400 → cc_db (k + 1) ≤ 366 * (k + 1) := by decide +kernel
theorem cc_db400 : cc_db 400 = 146097 := by decide +kernel
theorem cc_db0 : cc_db 0 = 0 := by decide +kernel
theorem cc_ln31 (y m : Nat) : cc_ln y m ≤ 31 := by
  unfold cc_ln
  repeat (first | omega | split)
theorem cc_ln28 (y m : Nat) : 28 ≤ cc_ln y m := by
  unfold cc_ln
  repeat (first | omega | split)
theorem cc_cu11 (y : Nat) : cc_cu y 11 = 334 + (if cc_lp y then 1 else 0) := by
  by_cases h : cc_lp y
  · simp [cc_cu, cc_ln, if_pos h]
  · simp [cc_cu, cc_ln, if_neg h]
theorem cc_year (d : Nat) (hd : d < 146097) : ∃ k, k < 400 ∧ cc_db k ≤ d ∧ d < cc_db (k + 1) ∧ ∀ i, i < k → ¬ d < cc_db (i + 1) := by
  obtain ⟨k, h1, h2⟩ := pk_least (fun k => d < cc_db (k + 1)) ⟨399, by show d < cc_db 400; rw [cc_db400]; exact hd⟩
  have hk : k < 400 := by
    rcases Nat.lt_or_ge k 400 with z | z
    · exact z
    · exact absurd (show d < cc_db (399 + 1) by show d < cc_db 400; rw [cc_db400]; exact hd) (h2 399 (by omega))
  refine ⟨k, hk, ?_, h1, h2⟩
  cases k with
  | zero => rw [cc_db0]; omega
  | succ j => exact Nat.not_lt.mp (h2 j (by omega))
theorem cc_month (y R : Nat) (hR : R < 365 + (if cc_lp y then 1 else 0)) : ∃ j, j ≤ 11 ∧ cc_cu y j ≤ R ∧ R - cc_cu y j < 31 ∧ (j < 11 → R < cc_cu y (j + 1)) ∧ ∀ i, i < j → i < 11 ∧ cc_cu y (i + 1) ≤ R := by
  obtain ⟨j, h1, h2⟩ := pk_least (fun j => j = 11 ∨ R < cc_cu y (j + 1)) ⟨11, Or.inl rfl⟩
  have hj : j ≤ 11 := by
    rcases Nat.lt_or_ge 11 j with z | z
    · exact absurd (Or.inl rfl) (h2 11 z)
    · exact z
  have hm : ∀ i, i < j → i < 11 ∧ cc_cu y (i + 1) ≤ R := fun i hi => ⟨by omega, Nat.not_lt.mp (fun q => h2 i hi (Or.inr q))⟩
  have hc : cc_cu y j ≤ R := by
    cases j with
    | zero => exact Nat.zero_le R
    | succ i => exact (hm i (by omega)).2
  refine ⟨j, hj, hc, ?_, fun hlt => ?_, hm⟩
  · rcases h1 with z | z
    · subst z
      have := cc_cu11 y
      omega
    · have e : cc_cu y (j + 1) = cc_cu y j + cc_ln y (j + 1) := rfl
      have := cc_ln31 y (j + 1)
      omega
  · rcases h1 with z | z
    · omega
    · exact z
theorem cc_dbI {k : Nat} (hk : k ≤ 400) : (((365 * nI k) + ((nI k + 3) / 4)) - ((nI k + 99) / 100)) + ((nI k + 399) / 400) = nI (cc_db k) := by
  rw [show (365 : Int32) = nI 365 from rfl, show (3 : Int32) = nI 3 from rfl, show (4 : Int32) = nI 4 from rfl, show (99 : Int32) = nI 99 from rfl, show (100 : Int32) = nI 100 from rfl, show (399 : Int32) = nI 399 from rfl, show (400 : Int32) = nI 400 from rfl]
  rw [pk_mul, nI_add, nI_add, nI_add, pk_div (by omega) (by omega) (by omega), pk_div (by omega) (by omega) (by omega), pk_div (by omega) (by omega) (by omega), nI_add, pk_sub (by omega), nI_add]
  rfl
theorem cc_daysBefore {post : Int32 → Prop} {k : Nat} (hk : k ≤ 400) (H : post (nI (cc_db k))) : wpX_daysBefore post () (nI (2000 + k)) := by
  unfold wpX_daysBefore
  refine nm_r (e' := nI k) ?_ ⟨by decide, by decide, by decide, ?_⟩
  · rw [show (2000 : Int32) = nI 2000 from rfl, pk_sub (by omega), Nat.add_sub_cancel_left]
  · rw [cc_dbI hk]
    exact H
theorem cc_yearOf {post : Int32 → Prop} {d k : Nat} (hd : d < 146097) (hk : k < 400) (h1 : d < cc_db (k + 1)) (h2 : ∀ i, i < k → ¬ d < cc_db (i + 1)) (H : post (nI (2000 + k))) : wpX_yearOf post () (nI d) := by
  have h3 := cc_db366 k hk
  unfold wpX_yearOf
  refine ⟨by decide, nm_r (e' := nI (2000 + d / 366)) ?_ ?_⟩
  · rw [show (366 : Int32) = nI 366 from rfl, show (2000 : Int32) = nI 2000 from rfl, pk_div (by omega) (by omega) (by omega), nI_add]
  · refine pk_loop (σ := Unit) (fun n i _ => wX_yearOf_10 post (nI d) n (nI (2000 + i))) (fun _ _ => True) k (d / 366) () (by omega) trivial ?_ ?_
    · intro n _ _
      unfold wX_yearOf_10
      rw [nI_1]
      exact cc_daysBefore (k := k + 1) (by omega) (br_t (nI_lt h1 (by have := cc_db366 k hk; omega)) H)
    · intro n i _ hi _ hw
      unfold wX_yearOf_10
      rw [nI_1]
      exact cc_daysBefore (k := i + 1) (by omega) (br_f (nI_nlt (Nat.not_lt.mp (h2 i hi)) (by omega)) (nm_e (hw () trivial)))
theorem cc_isLeap {post : Int32 → Prop} {y : Nat} (hy : y < 2 ^ 31) (Ht : cc_lp y → post 1) (Hf : ¬ cc_lp y → post 0) : wpX_isLeap post () (nI y) := by
  unfold wpX_isLeap
  have e4 : nI y - nI y / 4 * 4 = nI (y % 4) := pk_rem (d := 4) hy (by decide) (by decide)
  have e100 : nI y - nI y / 100 * 100 = nI (y % 100) := pk_rem (d := 100) hy (by decide) (by decide)
  have e400 : nI y - nI y / 400 * 400 = nI (y % 400) := pk_rem (d := 400) hy (by decide) (by decide)
  rw [e4, e100, e400]
  exact ⟨by decide, pk_eq (y % 4) 0 (fun a => ⟨by decide, pk_eq (y % 100) 0 (fun b => ⟨by decide, pk_eq (y % 400) 0 (fun c => Ht ⟨a, Or.inr c⟩) (fun c => Hf (fun q => q.2.elim (fun z => z b) (fun z => c z)))⟩) (fun b => Ht ⟨a, Or.inl b⟩)⟩) (fun a => Hf (fun q => a q.1))⟩
theorem cc_lengthOf {post : Int32 → Prop} {y m : Nat} (hy : y < 2 ^ 31) (hm : m ≤ 12) (H : post (nI (cc_ln y m))) : wpX_lengthOf post () (nI y) (nI m) := by
  unfold wpX_lengthOf
  refine pk_eq m 2 (fun a => ?_) (fun a => pk_eq m 4 (fun b => ?_) (fun b => pk_eq m 6 (fun c => ?_) (fun c => pk_eq m 9 (fun e => ?_) (fun e => pk_eq m 11 (fun h => ?_) (fun h => ?_)))))
  · refine cc_isLeap hy (fun l => br_f (by decide) ?_) (fun l => br_t (by decide) ?_)
    · rw [show cc_ln y m = 29 by unfold cc_ln; rw [if_pos a, if_pos l]] at H
      exact H
    · rw [show cc_ln y m = 28 by unfold cc_ln; rw [if_pos a, if_neg l]] at H
      exact H
  · rw [show cc_ln y m = 30 by unfold cc_ln; rw [if_neg a, if_pos (by omega)]] at H
    exact H
  · rw [show cc_ln y m = 30 by unfold cc_ln; rw [if_neg a, if_pos (by omega)]] at H
    exact H
  · rw [show cc_ln y m = 30 by unfold cc_ln; rw [if_neg a, if_pos (by omega)]] at H
    exact H
  · rw [show cc_ln y m = 30 by unfold cc_ln; rw [if_neg a, if_pos (by omega)]] at H
    exact H
  · rw [show cc_ln y m = 31 by unfold cc_ln; rw [if_neg a, if_neg (by omega)]] at H
    exact H
/-- day d splits into y, m, q, whatever the post and the state -/
def cc_Sp (d y m q : Nat) : Prop := 2000 ≤ y ∧ y < 2400 ∧ 1 ≤ m ∧ m ≤ 12 ∧ 1 ≤ q ∧ q ≤ 31 ∧ ∀ (post : St2 → Prop) (f0 f1 f2 : Int32) (a1 : Nat → Int64) (a2 a3 a4 : Nat → Int32), post (nI y, nI m, nI q, a1, a2, a3, a4) → wpX_split post (f0, f1, f2, a1, a2, a3, a4) (nI d)
theorem cc_split (d : Nat) (hd : d < 146097) : ∃ y m q, cc_Sp d y m q := by
  obtain ⟨k, hk, k1, k2, k3⟩ := cc_year d hd
  have ks := cc_dbS k hk
  obtain ⟨j, j0, j1, j2, j3, j4⟩ := cc_month (2000 + k) (d - cc_db k) (by omega)
  refine ⟨2000 + k, j + 1, d - cc_db k - cc_cu (2000 + k) j + 1, by omega, by omega, by omega, by omega, by omega, by omega, ?_⟩
  intro post f0 f1 f2 a1 a2 a3 a4 H
  unfold wpX_split
  dsimp only
  refine cc_yearOf hd hk k2 k3 (cc_daysBefore (by omega) (nm_r (pk_sub k1) ?_))
  refine pk_loop (σ := Unit) (fun n i _ => wX_split_23 post (nI (2000 + k)) f2 a1 a2 a3 a4 n (nI (d - cc_db k - cc_cu (2000 + k) i)) (nI (i + 1))) (fun _ _ => True) j 0 () (Nat.zero_le j) trivial ?_ ?_
  · intro n _ _
    refine pk_le 12 (j + 1) (fun _ => nm_r (nI_1 _) H) (fun z => cc_lengthOf (by omega) (by omega) (br_t (nI_lt ?_ (by have := cc_ln31 (2000 + k) (j + 1); omega)) (nm_r (nI_1 _) H)))
    have e : cc_cu (2000 + k) (j + 1) = cc_cu (2000 + k) j + cc_ln (2000 + k) (j + 1) := rfl
    have := j3 (by omega)
    omega
  · intro n i _ hi _ hw
    have e : cc_cu (2000 + k) (i + 1) = cc_cu (2000 + k) i + cc_ln (2000 + k) (i + 1) := rfl
    obtain ⟨i1, i2⟩ := j4 i hi
    have w : wX_split_23 post (nI (2000 + k)) f2 a1 a2 a3 a4 n (nI (d - cc_db k - cc_cu (2000 + k) (i + 1))) (nI (i + 1 + 1)) := hw () trivial
    refine pk_le 12 (i + 1) (fun z => absurd z (by omega)) (fun _ => cc_lengthOf (by omega) (by omega) (br_f (nI_nlt (by omega) (by omega)) (cc_lengthOf (by omega) (by omega) (nm_r (pk_sub (by omega)) (nm_r (nI_1 _) ?_)))))
    rw [show d - cc_db k - cc_cu (2000 + k) i - cc_ln (2000 + k) (i + 1) = d - cc_db k - cc_cu (2000 + k) (i + 1) by omega]
    exact w
end
section
/-! part 03: dayFits, isDue, timeFrom, timeUpTo, valuesOf -/
/-- both answers as naturals' numbers: A holds and the answer is 1, or not and it is 0 -/
def cc_b (A : Prop) (x : Int32) : Prop := (A ∧ x = 1) ∨ (¬ A ∧ x = 0)
def cc_sel (Z A B : Prop) : Prop := (Z ∧ A ∧ B) ∨ (¬ Z ∧ (A ∨ B))
def cc_str (g : Nat → Option Nat) (r : Nat) : Prop := g (5 * r + 2) = none ∨ g (5 * r + 4) = none
def cc_df (g : Nat → Option Nat) (r d q : Nat) : Prop := cc_sel (cc_str g r) (cc_ok (g (5 * r + 2)) q) (cc_ok (g (5 * r + 4)) ((d + 6) % 7))
theorem cc_df_n {g : Nat → Option Nat} {r d q : Nat} (h : g (5 * r + 2) = none) : cc_df g r d q ↔ cc_ok (g (5 * r + 4)) ((d + 6) % 7) :=
  ⟨fun k => k.elim (fun t => t.2.2) (fun t => absurd (Or.inl h) t.1), fun k => Or.inl ⟨Or.inl h, cc_ok_n h, k⟩⟩
theorem cc_57 {post : Int32 → Prop} {Z A B : Prop} {x3 x4 z0 y m d : Int32} {a1 : Nat → Int64} {a2 a3 a4 : Nat → Int32} (hA : cc_b A x3) (hB : cc_b B x4) (hZ : cc_b Z z0) (Ht : cc_sel Z A B → post 1) (Hf : ¬ cc_sel Z A B → post 0) :
    wX_dayFits_57 post x3 x4 z0 y m d a1 a2 a3 a4 := by
  unfold wX_dayFits_57
  rcases hZ with ⟨z, rfl⟩ | ⟨z, rfl⟩
  · refine br_f (by decide) ?_
    rcases hA with ⟨a, rfl⟩ | ⟨a, rfl⟩
    · refine br_f (by decide) ?_
      rcases hB with ⟨b, rfl⟩ | ⟨b, rfl⟩
      · exact br_f (by decide) (Ht (Or.inl ⟨z, a, b⟩))
      · exact br_t rfl (Hf (fun q => q.elim (fun t => b t.2.2) (fun t => t.1 z)))
    · exact br_t rfl (Hf (fun q => q.elim (fun t => a t.2.1) (fun t => t.1 z)))
  · refine br_t rfl ?_
    rcases hA with ⟨a, rfl⟩ | ⟨a, rfl⟩
    · exact br_f (by decide) (Ht (Or.inr ⟨z, Or.inl a⟩))
    · refine br_t rfl ?_
      rcases hB with ⟨b, rfl⟩ | ⟨b, rfl⟩
      · exact br_f (by decide) (Ht (Or.inr ⟨z, Or.inr b⟩))
      · exact br_t rfl (Hf (fun q => q.elim (fun t => z t.1) (fun t => t.2.elim a b)))
theorem cc_full {g : Nat → Option Nat} {a1 : Nat → Int64} {a2 a3 a4 : Nat → Int32} (K : cc_K g a1 a2 a3 a4) {k : Nat} (hk : k < 20) : a2 k = 0 ↔ ¬ g k = none := by
  obtain ⟨p, q⟩ := K.1 k hk
  constructor
  · intro h e
    exact absurd ((p e).symm.trans h) (by decide)
  · intro h
    cases e : g k with
    | none => exact absurd e h
    | some w => exact (q w e).2.1
theorem cc_dfTail {post : Int32 → Prop} {A B : Prop} {x3 x4 y m d : Int32} {a1 : Nat → Int64} {a2 a3 a4 : Nat → Int32} {g : Nat → Option Nat} (K : cc_K g a1 a2 a3 a4) {r : Nat} (hr : r < 4) (hA : cc_b A x3) (hB : cc_b B x4) (Ht : cc_sel (cc_str g r) A B → post 1) (Hf : ¬ cc_sel (cc_str g r) A B → post 0) :
    (vp_in ((5 * nI r) + 2) 20 ∧ ((((a2 ((5 * nI r) + 2).toNatClampNeg) = 0 → (vp_in ((5 * nI r) + 4) 20 ∧ ((((a2 ((5 * nI r) + 4).toNatClampNeg) = 0 → (wX_dayFits_57 post x3 x4 0 y m d a1 a2 a3 a4)) ∧ (¬ (a2 ((5 * nI r) + 4).toNatClampNeg) = 0 → (wX_dayFits_52 post x3 x4 y m d a1 a2 a3 a4)))))) ∧ (¬ (a2 ((5 * nI r) + 2).toNatClampNeg) = 0 → (wX_dayFits_52 post x3 x4 y m d a1 a2 a3 a4))))) := by
  have e2 : (5 : Int32) * nI r + 2 = nI (5 * r + 2) := cc_at r 2
  have e4 : (5 : Int32) * nI r + 4 = nI (5 * r + 4) := cc_at r 4
  rw [e2, e4, nI_clamp (show 5 * r + 2 < 2 ^ 31 by omega), nI_clamp (show 5 * r + 4 < 2 ^ 31 by omega)]
  have hs : cc_str g r → wX_dayFits_52 post x3 x4 y m d a1 a2 a3 a4 := fun s => cc_57 hA hB (Or.inl ⟨s, rfl⟩) Ht Hf
  refine ⟨pk_in (5 * r + 2) 20 (by omega), ek_if (cc_full K (show 5 * r + 2 < 20 by omega)) (fun n2 => ⟨pk_in (5 * r + 4) 20 (by omega), ek_if (cc_full K (show 5 * r + 4 < 20 by omega)) (fun n4 => ?_) (fun n4 => hs (Or.inr (Classical.not_not.mp n4)))⟩) (fun n2 => hs (Or.inl (Classical.not_not.mp n2)))⟩
  exact cc_57 hA hB (Or.inr ⟨fun s => s.elim n2 n4, rfl⟩) Ht Hf
theorem cc_wd {d : Nat} (hd : d < 2 ^ 30) : nI d + 6 - (nI d + 6) / 7 * 7 = nI ((d + 6) % 7) := by
  have e : nI d + 6 = nI (d + 6) := nI_add d 6
  rw [e]
  exact pk_rem (d := 7) (by omega) (by decide) (by decide)
theorem cc_dayFits {post : Int32 → Prop} {y m : Int32} {a1 : Nat → Int64} {a2 a3 a4 : Nat → Int32} {g : Nat → Option Nat} (K : cc_K g a1 a2 a3 a4) {r d q : Nat} (hr : r < 4) (hd : d < 146097) (q1 : 1 ≤ q) (q2 : q ≤ 31) (Ht : cc_df g r d q → post 1) (Hf : ¬ cc_df g r d q → post 0) :
    wpX_dayFits post (y, m, nI q, a1, a2, a3, a4) (nI r) (nI d) := by
  have h7 : (d + 6) % 7 ≤ 6 := by omega
  unfold wpX_dayFits
  dsimp only
  rw [cc_wd (show d < 2 ^ 30 by omega)]
  have rest : ∀ x3, cc_b (cc_ok (g (5 * r + 2)) q) x3 → ∀ x4, cc_b (cc_ok (g (5 * r + 4)) ((d + 6) % 7)) x4 → _ := fun x3 hA x4 hB => cc_dfTail (y := y) (m := m) (d := nI q) K hr hA hB Ht Hf
  exact cc_isAllowed K 2 q hr (by decide) q1 q2
    (fun hA => ⟨by decide, cc_isAllowed K 4 ((d + 6) % 7) hr (by decide) (Nat.zero_le _) h7 (fun hB => rest 1 (Or.inl ⟨hA, rfl⟩) 1 (Or.inl ⟨hB, rfl⟩)) (fun hB => rest 1 (Or.inl ⟨hA, rfl⟩) 0 (Or.inr ⟨hB, rfl⟩))⟩)
    (fun hA => ⟨by decide, cc_isAllowed K 4 ((d + 6) % 7) hr (by decide) (Nat.zero_le _) h7 (fun hB => rest 0 (Or.inr ⟨hA, rfl⟩) 1 (Or.inl ⟨hB, rfl⟩)) (fun hB => rest 0 (Or.inr ⟨hA, rfl⟩) 0 (Or.inr ⟨hB, rfl⟩))⟩)
theorem cc_isDue {post : Int32 → St2 → Prop} {f0 f1 f2 : Int32} {a1 : Nat → Int64} {a2 a3 a4 : Nat → Int32} {g : Nat → Option Nat} (K : cc_K g a1 a2 a3 a4) {r d Y M Q : Nat} (hr : r < 4) (hd : d < 146097) (S : cc_Sp d Y M Q)
    (Ht : cc_ok (g (5 * r + 3)) M ∧ cc_df g r d Q → post 1 (nI Y, nI M, nI Q, a1, a2, a3, a4)) (Hf : ¬ (cc_ok (g (5 * r + 3)) M ∧ cc_df g r d Q) → post 0 (nI Y, nI M, nI Q, a1, a2, a3, a4)) :
    wpX_isDue post (f0, f1, f2, a1, a2, a3, a4) (nI r) (nI d) := by
  obtain ⟨y1, y2, m1, m2, q1, q2, sp⟩ := S
  unfold wpX_isDue
  dsimp only
  refine sp _ _ _ _ _ _ _ _ ?_
  dsimp only
  exact cc_isAllowed K 3 M hr (by decide) m1 m2
    (fun hM => br_f (by decide) (cc_dayFits K hr hd q1 q2 (fun hD => br_f (by decide) (Ht ⟨hM, hD⟩)) (fun hD => br_t rfl (Hf (fun t => hD t.2)))))
    (fun hM => br_t rfl (Hf (fun t => hM t.1)))
/-! timeFrom -/
theorem cc_43a {post J : Int32 → Prop} {x2 y m d : Int32} {a1 : Nat → Int64} {a2 a3 a4 : Nat → Int32} {g : Nat → Option Nat} (K : cc_K g a1 a2 a3 a4) {r v mi lw : Nat} (hr : r < 4) (em : g (5 * r + 0) = some mi) (hm : mi < 60) (hl : lw ≤ mi) (H : post (nI (60 * v + mi))) :
    ∃ n, wX_timeFrom_43 post J (nI r) x2 (nI v) y m d a1 a2 a3 a4 n (nI lw) :=
  pk_loop (σ := Unit) (fun n i _ => wX_timeFrom_43 post J (nI r) x2 (nI v) y m d a1 a2 a3 a4 n (nI i)) (fun _ _ => True) mi lw () hl trivial
    (fun n _ _ => pk_le 60 mi (fun z => absurd z (by omega)) (fun _ => cc_isAllowed K 0 mi hr (by decide) (Nat.zero_le _) (by show mi ≤ 59; omega)
      (fun _ => br_f (by decide) (by rw [show (60 : Int32) = nI 60 from rfl, pk_mul, nI_add]; exact H))
      (fun z => absurd ((cc_ok_s em).mpr rfl) z)))
    (fun n i _ hi _ hw => pk_le 60 i (fun z => absurd z (by omega)) (fun _ => cc_isAllowed K 0 i hr (by decide) (Nat.zero_le _) (by show i ≤ 59; omega)
      (fun z => absurd ((cc_ok_s em).mp z) (by omega))
      (fun _ => br_t rfl (nm_r (nI_1 i) (hw () trivial)))))
theorem cc_43b {post J : Int32 → Prop} {x2 y m d : Int32} {a1 : Nat → Int64} {a2 a3 a4 : Nat → Int32} {g : Nat → Option Nat} (K : cc_K g a1 a2 a3 a4) {r v mi lw : Nat} (hr : r < 4) (em : g (5 * r + 0) = some mi) (hl : mi < lw) (hl2 : lw ≤ 60) (H : J (nI (v + 1))) :
    ∃ n, wX_timeFrom_43 post J (nI r) x2 (nI v) y m d a1 a2 a3 a4 n (nI lw) :=
  pk_loop (σ := Unit) (fun n i _ => wX_timeFrom_43 post J (nI r) x2 (nI v) y m d a1 a2 a3 a4 n (nI i)) (fun i _ => mi < i) 60 lw () hl2 hl
    (fun n _ _ => pk_le 60 60 (fun _ => nm_r (nI_1 v) H) (fun z => absurd z (by omega)))
    (fun n i _ hi h hw => pk_le 60 i (fun z => absurd z (by omega)) (fun _ => cc_isAllowed K 0 i hr (by decide) (Nat.zero_le _) (by show i ≤ 59; omega)
      (fun z => absurd ((cc_ok_s em).mp z) (by omega))
      (fun _ => br_t rfl (nm_r (nI_1 i) (hw () (by omega))))))
theorem cc_timeFrom {post : Int32 → Prop} {y m d : Int32} {a1 : Nat → Int64} {a2 a3 a4 : Nat → Int32} {g : Nat → Option Nat} (K : cc_K g a1 a2 a3 a4) {r h mi t : Nat} (hr : r < 4) (em : g (5 * r + 0) = some mi) (eh : g (5 * r + 1) = some h) (hm : mi < 60) (hh : h < 24) (ht : t < 1440)
    (Ht : t ≤ 60 * h + mi → post (nI (60 * h + mi))) (Hf : 60 * h + mi < t → post (-1)) :
    wpX_timeFrom post (y, m, d, a1, a2, a3, a4) (nI r) (nI t) := by
  have e1 : nI t / 60 = nI (t / 60) := pk_div (d := 60) (by omega) (by decide) (by decide)
  have e2 : nI t - nI t / 60 * 60 = nI (t % 60) := pk_rem (d := 60) (by omega) (by decide) (by decide)
  unfold wpX_timeFrom
  dsimp only
  refine ⟨by decide, nm_r e1 ?_⟩
  by_cases c : t ≤ 60 * h + mi
  · refine pk_loop (σ := Unit) (fun n i _ => wX_timeFrom_5 post (nI r) (nI t) y m d a1 a2 a3 a4 n (nI i)) (fun i _ => t / 60 ≤ i) h (t / 60) () (by omega) (Nat.le_refl _) ?_ ?_
    · intro n _ hi
      refine pk_le 24 h (fun z => absurd z (by omega)) (fun _ => cc_isAllowed K 1 h hr (by decide) (Nat.zero_le _) (by show h ≤ 23; omega) (fun _ => br_f (by decide) ⟨by decide, ?_⟩) (fun z => absurd ((cc_ok_s eh).mpr rfl) z))
      refine pk_eq h (t / 60) (fun z => ⟨by decide, nm_r e2 (cc_43a K hr em hm (by omega) (Ht c))⟩) (fun z => cc_43a (lw := 0) K hr em hm (Nat.zero_le _) (Ht c)) (hy := e1)
    · intro n i _ hi hi2 hw
      exact pk_le 24 i (fun z => absurd z (by omega)) (fun _ => cc_isAllowed K 1 i hr (by decide) (Nat.zero_le _) (by show i ≤ 23; omega) (fun z => absurd ((cc_ok_s eh).mp z) (by omega)) (fun _ => br_t rfl (nm_r (nI_1 i) (hw () (by omega)))))
  · refine pk_loop (σ := Unit) (fun n i _ => wX_timeFrom_5 post (nI r) (nI t) y m d a1 a2 a3 a4 n (nI i)) (fun i _ => t / 60 ≤ i) 24 (t / 60) () (by omega) (Nat.le_refl _) ?_ ?_
    · intro n _ hi
      exact pk_le 24 24 (fun _ => Hf (by omega)) (fun z => absurd z (by omega))
    · intro n i _ hi hi2 hw
      refine pk_le 24 i (fun z => absurd z (by omega)) (fun _ => cc_isAllowed K 1 i hr (by decide) (Nat.zero_le _) (by show i ≤ 23; omega) (fun z => br_f (by decide) ⟨by decide, ?_⟩) (fun _ => br_t rfl (nm_r (nI_1 i) (hw () (by omega)))))
      have z' : h = i := (cc_ok_s eh).mp z
      exact pk_eq i (t / 60) (fun q => ⟨by decide, nm_r e2 (cc_43b K hr em (by omega) (by omega) (hw () (by omega)))⟩) (fun q => absurd q (by omega)) (hy := e1)
/-! timeUpTo -/
theorem cc_42a {post J : Int32 → Prop} {x2 y m d : Int32} {a1 : Nat → Int64} {a2 a3 a4 : Nat → Int32} {g : Nat → Option Nat} (K : cc_K g a1 a2 a3 a4) {r v mi hg : Nat} (hr : r < 4) (em : g (5 * r + 0) = some mi) (hl : mi ≤ hg) (hl2 : hg < 60) (H : post (nI (60 * v + mi))) :
    ∃ n, wX_timeUpTo_42 post J (nI r) x2 (nI v) y m d a1 a2 a3 a4 n (nI hg) := by
  have w := pk_loopD (σ := Unit) (fun n i _ => wX_timeUpTo_42 post J (nI r) x2 (nI v) y m d a1 a2 a3 a4 n (nI i + (-1))) (fun i _ => mi < i ∧ i ≤ 60)
    (fun n _ h => absurd h.1 (by omega))
    (by
      intro n i _ h hw
      show wX_timeUpTo_42 post J (nI r) x2 (nI v) y m d a1 a2 a3 a4 (n + 1) (nI (i + 1) + (-1))
      rw [pk_m1]
      refine br_f (nI_pos (by omega)) (cc_isAllowed K 0 i hr (by decide) (Nat.zero_le _) (by show i ≤ 59; omega) (fun z => br_f (by decide) ?_) (fun z => br_t rfl (nm_e (hw () ⟨?_, by omega⟩))))
      · have z' : mi = i := (cc_ok_s em).mp z
        rw [show (60 : Int32) = nI 60 from rfl, pk_mul, nI_add, ← z']
        exact H
      · have z' : ¬ mi = i := fun q => z ((cc_ok_s em).mpr q)
        omega) (hg + 1) () ⟨by omega, by omega⟩
  have w' : wX_timeUpTo_42 post J (nI r) x2 (nI v) y m d a1 a2 a3 a4 (hg + 1 + 1) (nI (hg + 1) + (-1)) := w
  rw [pk_m1] at w'
  exact ⟨_, w'⟩
theorem cc_42b {post J : Int32 → Prop} {x2 y m d : Int32} {a1 : Nat → Int64} {a2 a3 a4 : Nat → Int32} {g : Nat → Option Nat} (K : cc_K g a1 a2 a3 a4) {r v mi hg : Nat} (hr : r < 4) (em : g (5 * r + 0) = some mi) (hl : hg < mi) (hl2 : hg < 60) (H : J (nI v + (-1))) :
    ∃ n, wX_timeUpTo_42 post J (nI r) x2 (nI v) y m d a1 a2 a3 a4 n (nI hg) := by
  have w := pk_loopD (σ := Unit) (fun n i _ => wX_timeUpTo_42 post J (nI r) x2 (nI v) y m d a1 a2 a3 a4 n (nI i + (-1))) (fun i _ => i ≤ mi ∧ i ≤ 60)
    (fun n _ h => br_t (by decide) (nm_e H))
    (by
      intro n i _ h hw
      show wX_timeUpTo_42 post J (nI r) x2 (nI v) y m d a1 a2 a3 a4 (n + 1) (nI (i + 1) + (-1))
      rw [pk_m1]
      exact br_f (nI_pos (by omega)) (cc_isAllowed K 0 i hr (by decide) (Nat.zero_le _) (by show i ≤ 59; omega) (fun z => absurd ((cc_ok_s em).mp z) (by omega)) (fun z => br_t rfl (nm_e (hw () ⟨by omega, by omega⟩))))) (hg + 1) () ⟨by omega, by omega⟩
  have w' : wX_timeUpTo_42 post J (nI r) x2 (nI v) y m d a1 a2 a3 a4 (hg + 1 + 1) (nI (hg + 1) + (-1)) := w
  rw [pk_m1] at w'
  exact ⟨_, w'⟩
theorem cc_timeUpTo {post : Int32 → Prop} {y m d : Int32} {a1 : Nat → Int64} {a2 a3 a4 : Nat → Int32} {g : Nat → Option Nat} (K : cc_K g a1 a2 a3 a4) {r h mi t : Nat} (hr : r < 4) (em : g (5 * r + 0) = some mi) (eh : g (5 * r + 1) = some h) (hm : mi < 60) (hh : h < 24) (ht : t < 1440)
    (Ht : 60 * h + mi ≤ t → post (nI (60 * h + mi))) (Hf : t < 60 * h + mi → post (-1)) :
    wpX_timeUpTo post (y, m, d, a1, a2, a3, a4) (nI r) (nI t) := by
  have e1 : nI t / 60 = nI (t / 60) := pk_div (d := 60) (by omega) (by decide) (by decide)
  have e2 : nI t - nI t / 60 * 60 = nI (t % 60) := pk_rem (d := 60) (by omega) (by decide) (by decide)
  unfold wpX_timeUpTo
  dsimp only
  refine ⟨by decide, nm_r e1 ?_⟩
  by_cases c : 60 * h + mi ≤ t
  · have w := pk_loopD (σ := Unit) (fun n i _ => wX_timeUpTo_5 post (nI r) (nI t) y m d a1 a2 a3 a4 n (nI i + (-1))) (fun i _ => h < i ∧ i ≤ t / 60 + 1)
      (fun n _ q => absurd q.1 (by omega))
      (by
        intro n i _ q hw
        show wX_timeUpTo_5 post (nI r) (nI t) y m d a1 a2 a3 a4 (n + 1) (nI (i + 1) + (-1))
        rw [pk_m1]
        refine br_f (nI_pos (by omega)) (cc_isAllowed K 1 i hr (by decide) (Nat.zero_le _) (by show i ≤ 23; omega) (fun z => br_f (by decide) ⟨by decide, ?_⟩) (fun z => br_t rfl (nm_e (hw () ⟨?_, by omega⟩))))
        · have z' : h = i := (cc_ok_s eh).mp z
          subst z'
          exact pk_eq h (t / 60) (fun q => ⟨by decide, nm_r e2 (cc_42a K hr em (by omega) (by omega) (Ht c))⟩) (fun q => cc_42a (hg := 59) K hr em (by omega) (by omega) (Ht c)) (hy := e1)
        · have z' : ¬ h = i := fun q => z ((cc_ok_s eh).mpr q)
          omega) (t / 60 + 1) () ⟨by omega, by omega⟩
    have w' : wX_timeUpTo_5 post (nI r) (nI t) y m d a1 a2 a3 a4 (t / 60 + 1 + 1) (nI (t / 60 + 1) + (-1)) := w
    rw [pk_m1] at w'
    exact ⟨_, w'⟩
  · have w := pk_loopD (σ := Unit) (fun n i _ => wX_timeUpTo_5 post (nI r) (nI t) y m d a1 a2 a3 a4 n (nI i + (-1))) (fun i _ => i ≤ t / 60 + 1)
      (fun n _ q => br_t (by decide) (Hf (by omega)))
      (by
        intro n i _ q hw
        show wX_timeUpTo_5 post (nI r) (nI t) y m d a1 a2 a3 a4 (n + 1) (nI (i + 1) + (-1))
        rw [pk_m1]
        have k : wX_timeUpTo_5 post (nI r) (nI t) y m d a1 a2 a3 a4 n (nI i + (-1)) := hw () (by omega)
        refine br_f (nI_pos (by omega)) (cc_isAllowed K 1 i hr (by decide) (Nat.zero_le _) (by show i ≤ 23; omega) (fun z => br_f (by decide) ⟨by decide, ?_⟩) (fun z => br_t rfl (nm_e k)))
        have z' : h = i := (cc_ok_s eh).mp z
        exact pk_eq i (t / 60) (fun q => ⟨by decide, nm_r e2 (cc_42b K hr em (by omega) (by omega) k)⟩) (fun q => absurd q (by omega)) (hy := e1)) (t / 60 + 1) () (by omega)
    have w' : wX_timeUpTo_5 post (nI r) (nI t) y m d a1 a2 a3 a4 (t / 60 + 1 + 1) (nI (t / 60 + 1) + (-1)) := w
    rw [pk_m1] at w'
    exact ⟨_, w'⟩
/-! valuesOf a field with one value -/
theorem cc_valuesOf {post : Int32 → Prop} {y m d p1 : Int32} {a1 : Nat → Int64} {a2 a3 a4 : Nat → Int32} {g : Nat → Option Nat} (K : cc_K g a1 a2 a3 a4) {r : Nat} (f : Nat) {w : Nat} (hr : r < 4) (hf : f < 5) (e : g (5 * r + f) = some w) (h1 : cc_lo f ≤ w) (h2 : w ≤ cc_hi f) (H : post 1) (hp : p1 = nI f := by rfl) :
    wpX_valuesOf post (y, m, d, a1, a2, a3, a4) (nI r) p1 := by
  subst hp
  have h60 := cc_hi60 f
  unfold wpX_valuesOf
  dsimp only
  refine ⟨pk_in f 5 hf, nm_r (e' := nI (cc_lo f)) (by rw [nI_clamp (show f < 2 ^ 31 by omega)]; exact K.2.1 f hf) ?_⟩
  have x4 : a4 (nI f).toNatClampNeg = nI (cc_hi f) := by
    rw [nI_clamp (show f < 2 ^ 31 by omega)]
    exact K.2.2 f hf
  refine pk_loop (fun n i (s : Int32) => wX_valuesOf_10 post (nI r) (nI f) y m d a1 a2 a3 a4 n s (nI i)) (fun i s => cc_lo f ≤ i ∧ (i ≤ w → s = 0) ∧ (w < i → s = 1)) (cc_hi f + 1) (cc_lo f) 0 (by omega) ⟨Nat.le_refl _, fun _ => rfl, fun z => absurd z (by omega)⟩ ?_ ?_
  · intro n s h
    refine ⟨pk_in f 5 hf, pk_lt (cc_hi f) (cc_hi f + 1) (fun _ => ?_) (fun z => absurd z (by omega)) (hx := x4)⟩
    rw [h.2.2 (by omega)]
    exact H
  · intro n i s hi h hw
    refine ⟨pk_in f 5 hf, pk_lt (cc_hi f) i (fun z => absurd z (by omega)) (fun _ => ?_) (hx := x4)⟩
    refine cc_isAllowed K f i hr hf h.1 (by omega) (fun z => br_f (by decide) (nm_e (nm_r (nI_1 i) (hw _ ⟨by omega, fun q => ?_, fun q => ?_⟩)))) (fun z => br_t rfl (nm_e (nm_r (nI_1 i) (hw _ ⟨by omega, fun q => ?_, fun q => ?_⟩))))
    · exact absurd ((cc_ok_s e).mp z) (by omega)
    · rw [h.2.1 (by have := (cc_ok_s e).mp z; omega)]
      rfl
    · rw [h.2.1 (by omega)]
      rfl
    · have z' : ¬ w = i := fun q => z ((cc_ok_s e).mpr q)
      rw [h.2.2 (by omega)]
      rfl
end
section
/-! part 04: next, previous, dueOn, fits, date, dueDays -/
theorem cc_lle {x y : Int64} {A B : Prop} (a b : Nat) (f : a ≤ b → A) (g : b < a → B) (hx : x = lN a := by rfl) (hy : y = lN b := by rfl) (ha : a < 2 ^ 63 := by omega) (hb : b < 2 ^ 63 := by omega) : (x ≤ y → A) ∧ (¬ x ≤ y → B) := by
  subst hx hy
  rw [pk_lLE ha hb]
  exact ⟨f, fun z => g (by omega)⟩
theorem cc_llt {x y : Int64} {A B : Prop} (a b : Nat) (f : a < b → A) (g : b ≤ a → B) (hx : x = lN a := by rfl) (hy : y = lN b := by rfl) (ha : a < 2 ^ 63 := by omega) (hb : b < 2 ^ 63 := by omega) : (x < y → A) ∧ (¬ x < y → B) := by
  subst hx hy
  rw [pk_lLT ha hb]
  exact ⟨f, fun z => g (by omega)⟩
theorem cc_leq {x y : Int64} {A B : Prop} (a b : Nat) (f : a = b → A) (g : a ≠ b → B) (hx : x = lN a := by rfl) (hy : y = lN b := by rfl) (ha : a < 2 ^ 63 := by omega) (hb : b < 2 ^ 63 := by omega) : (x = y → A) ∧ (¬ x = y → B) := by
  subst hx hy
  rw [pk_lEQ ha hb]
  exact ⟨f, g⟩
theorem cc_day64 {N : Nat} (hN : N < 2 ^ 62) : (lN N / 1440).toInt32 = nI (N / 1440) := by
  have e : lN N / 1440 = lN (N / 1440) := pk_lDiv (b := 1440) (by omega) (by decide) (by decide)
  rw [e, lN_i]
theorem cc_time64 {N : Nat} (hN : N < 2 ^ 62) : (lN N - lN N / 1440 * 1440).toInt32 = nI (N % 1440) := by
  have e : lN N - lN N / 1440 * 1440 = lN (N % 1440) := pk_lRem (b := 1440) (by omega) (by decide) (by decide)
  rw [e, lN_i]
theorem cc_min64 {i A : Nat} (hi : i < 2 ^ 31) (hA : A < 2 ^ 31) : (1440 * (nI i).toInt64) + (nI A).toInt64 = lN (1440 * i + A) := by
  rw [nI_l hi, nI_l hA, show (1440 : Int64) = lN 1440 from rfl, lN_mul, lN_add]
/-! next -/
theorem cc_nstep {post : Int64 → St2 → Prop} {f0 f1 f2 : Int32} {a1 : Nat → Int64} {a2 a3 a4 : Nat → Int32} {g : Nat → Option Nat} (K : cc_K g a1 a2 a3 a4) {r h mi i t n : Nat} (hr : r < 4) (em : g (5 * r + 0) = some mi) (eh : g (5 * r + 1) = some h) (hm : mi < 60) (hh : h < 24) (e2 : g (5 * r + 2) = none) (e3 : g (5 * r + 3) = none) (hi : i < 146097) (ht : t < 1440)
    (H1 : cc_ok (g (5 * r + 4)) ((i + 6) % 7) → t ≤ 60 * h + mi → ∀ y m d, post (lN (1440 * i + (60 * h + mi))) (y, m, d, a1, a2, a3, a4))
    (H2 : ¬ (cc_ok (g (5 * r + 4)) ((i + 6) % 7) ∧ t ≤ 60 * h + mi) → ∀ y m d, wX_next_56 post (nI r) n (nI (i + 1)) 0 y m d a1 a2 a3 a4) :
    wX_next_56 post (nI r) (n + 1) (nI i) (nI t) f0 f1 f2 a1 a2 a3 a4 := by
  obtain ⟨Y, M, Q, y1, y2, m1, m2, q1, q2, sp⟩ := cc_split i hi
  have miss : ¬ (cc_ok (g (5 * r + 4)) ((i + 6) % 7) ∧ t ≤ 60 * h + mi) → wX_next_132 post (wX_next_56 post (nI r) n) (nI r) (nI i) (-1) (nI Y) (nI M) (nI Q) a1 a2 a3 a4 := fun z => br_t (by decide) (nm_r (nI_1 i) (H2 z _ _ _))
  refine pk_le 146097 i (fun z => absurd z (by omega)) (fun _ => sp _ _ _ _ _ _ _ _ ?_)
  dsimp only
  refine cc_isAllowed K 3 M hr (by decide) m1 m2 (fun _ => br_f (by decide) (cc_dayFits K hr hi q1 q2 (fun hD => br_f (by decide) (cc_timeFrom K hr em eh hm hh ht (fun z => br_f (nI_pos (by omega)) ?_) (fun z => miss (fun q => absurd q.2 (by omega))))) (fun hD => br_t rfl (miss (fun q => hD ((cc_df_n e2).mpr q.1)))))) (fun z => absurd (cc_ok_n e3) z)
  rw [cc_min64 (show i < 2 ^ 31 by omega) (show 60 * h + mi < 2 ^ 31 by omega)]
  exact H1 ((cc_df_n e2).mp hD) z _ _ _
theorem cc_next {post : Int64 → St2 → Prop} {f0 f1 f2 : Int32} {a1 : Nat → Int64} {a2 a3 a4 : Nat → Int32} {g : Nat → Option Nat} (K : cc_K g a1 a2 a3 a4) {r h mi N : Nat} (c : Nat) (hr : r < 4) (em : g (5 * r + 0) = some mi) (eh : g (5 * r + 1) = some h) (hm : mi < 60) (hh : h < 24) (e2 : g (5 * r + 2) = none) (e3 : g (5 * r + 3) = none) (hN : N < 210379680)
    (hc : cc_ok (g (5 * r + 4)) ((c + 6) % 7)) (hcN : N < 1440 * c + (60 * h + mi)) (hl : ∀ i, cc_ok (g (5 * r + 4)) ((i + 6) % 7) → N < 1440 * i + (60 * h + mi) → c ≤ i)
    (H1 : c < 146097 → ∀ y m d, post (lN (1440 * c + (60 * h + mi))) (y, m, d, a1, a2, a3, a4)) (H2 : 146097 ≤ c → ∀ y m d, post (-2) (y, m, d, a1, a2, a3, a4)) :
    wpX_next post (f0, f1, f2, a1, a2, a3, a4) (nI r) (lN N) := by
  unfold wpX_next
  dsimp only
  refine cc_isRule hr (br_f (by decide) (cc_llt N 210379679 (fun z => cc_lle 0 N (fun _ => ?_) (fun z => absurd z (by omega))) (fun z => H2 (by omega) _ _ _)))
  rw [lN_1]
  unfold wX_next_36
  refine ⟨by decide, nm_r (cc_day64 (show N + 1 < 2 ^ 62 by omega)) ⟨by decide, nm_r (cc_time64 (show N + 1 < 2 ^ 62 by omega)) ?_⟩⟩
  have hs : ∀ n i (s : Int32 × Int32 × Int32 × Int32), i < c → i < 146097 → (∃ t, t < 1440 ∧ s.1 = nI t ∧ (N + 1) / 1440 ≤ i ∧ (t ≤ 60 * h + mi ↔ N < 1440 * i + (60 * h + mi))) →
      (∀ s' : Int32 × Int32 × Int32 × Int32, (∃ t, t < 1440 ∧ s'.1 = nI t ∧ (N + 1) / 1440 ≤ i + 1 ∧ (t ≤ 60 * h + mi ↔ N < 1440 * (i + 1) + (60 * h + mi))) → wX_next_56 post (nI r) n (nI (i + 1)) s'.1 s'.2.1 s'.2.2.1 s'.2.2.2 a1 a2 a3 a4) →
      wX_next_56 post (nI r) (n + 1) (nI i) s.1 s.2.1 s.2.2.1 s.2.2.2 a1 a2 a3 a4 := by
    intro n i s hic hi hI hw
    obtain ⟨t, t1, t2, t3, t4⟩ := hI
    rw [t2]
    refine cc_nstep K hr em eh hm hh e2 e3 hi t1 (fun p q => absurd (hl i p (t4.mp q)) (by omega)) (fun _ y m d => hw (0, y, m, d) ⟨0, by omega, rfl, by omega, ⟨fun _ => by omega, fun _ => Nat.zero_le _⟩⟩)
  by_cases hc2 : c < 146097
  · refine pk_loop (fun n i (s : Int32 × Int32 × Int32 × Int32) => wX_next_56 post (nI r) n (nI i) s.1 s.2.1 s.2.2.1 s.2.2.2 a1 a2 a3 a4) (fun i s => ∃ t, t < 1440 ∧ s.1 = nI t ∧ (N + 1) / 1440 ≤ i ∧ (t ≤ 60 * h + mi ↔ N < 1440 * i + (60 * h + mi))) c ((N + 1) / 1440) (nI ((N + 1) % 1440), f0, f1, f2) (by omega) ⟨(N + 1) % 1440, by omega, rfl, Nat.le_refl _, by omega⟩ ?_ (fun n i s hic hI hw => hs n i s hic (by omega) hI hw)
    intro n s hI
    obtain ⟨t, t1, t2, t3, t4⟩ := hI
    show wX_next_56 post (nI r) (n + 1) (nI c) s.1 s.2.1 s.2.2.1 s.2.2.2 a1 a2 a3 a4
    rw [t2]
    exact cc_nstep K hr em eh hm hh e2 e3 hc2 t1 (fun _ _ => H1 hc2) (fun q => absurd ⟨hc, t4.mpr hcN⟩ q)
  · refine pk_loop (fun n i (s : Int32 × Int32 × Int32 × Int32) => wX_next_56 post (nI r) n (nI i) s.1 s.2.1 s.2.2.1 s.2.2.2 a1 a2 a3 a4) (fun i s => ∃ t, t < 1440 ∧ s.1 = nI t ∧ (N + 1) / 1440 ≤ i ∧ (t ≤ 60 * h + mi ↔ N < 1440 * i + (60 * h + mi))) 146097 ((N + 1) / 1440) (nI ((N + 1) % 1440), f0, f1, f2) (by omega) ⟨(N + 1) % 1440, by omega, rfl, Nat.le_refl _, by omega⟩ ?_ (fun n i s hic hI hw => hs n i s (by omega) hic hI hw)
    intro n s hI
    exact pk_le 146097 146097 (fun _ => H2 (by omega) _ _ _) (fun z => absurd z (by omega))
/-! previous, of a rule whose days all fit -/
theorem cc_pstep {post : Int64 → St2 → Prop} {f0 f1 f2 : Int32} {a1 : Nat → Int64} {a2 a3 a4 : Nat → Int32} {g : Nat → Option Nat} (K : cc_K g a1 a2 a3 a4) {r h mi i t n : Nat} (hr : r < 4) (em : g (5 * r + 0) = some mi) (eh : g (5 * r + 1) = some h) (hm : mi < 60) (hh : h < 24) (e2 : g (5 * r + 2) = none) (e3 : g (5 * r + 3) = none) (e4 : g (5 * r + 4) = none) (hi : i < 146097) (ht : t < 1440)
    (H1 : 60 * h + mi ≤ t → ∀ y m d, post (lN (1440 * i + (60 * h + mi))) (y, m, d, a1, a2, a3, a4))
    (H2 : t < 60 * h + mi → ∀ y m d, wX_previous_58 post (nI r) n (nI i + (-1)) 1439 y m d a1 a2 a3 a4) :
    wX_previous_58 post (nI r) (n + 1) (nI i) (nI t) f0 f1 f2 a1 a2 a3 a4 := by
  obtain ⟨Y, M, Q, y1, y2, m1, m2, q1, q2, sp⟩ := cc_split i hi
  refine br_f (nI_pos (by omega)) (sp _ _ _ _ _ _ _ _ ?_)
  dsimp only
  refine cc_isAllowed K 3 M hr (by decide) m1 m2 (fun _ => br_f (by decide) (cc_dayFits K hr hi q1 q2 (fun hD => br_f (by decide) (cc_timeUpTo K hr em eh hm hh ht (fun z => br_f (nI_pos (by omega)) ?_) (fun z => br_t (by decide) (nm_e (H2 z _ _ _))))) (fun hD => absurd ((cc_df_n e2).mpr (cc_ok_n e4)) hD))) (fun z => absurd (cc_ok_n e3) z)
  rw [cc_min64 (show i < 2 ^ 31 by omega) (show 60 * h + mi < 2 ^ 31 by omega)]
  exact H1 z _ _ _
theorem cc_prev {post : Int64 → St2 → Prop} {f0 f1 f2 : Int32} {a1 : Nat → Int64} {a2 a3 a4 : Nat → Int32} {g : Nat → Option Nat} (K : cc_K g a1 a2 a3 a4) {r h mi D T : Nat} (hr : r < 4) (em : g (5 * r + 0) = some mi) (eh : g (5 * r + 1) = some h) (hm : mi < 60) (hh : h < 24) (e2 : g (5 * r + 2) = none) (e3 : g (5 * r + 3) = none) (e4 : g (5 * r + 4) = none) (hD : D < 146097) (hT : T < 1440)
    (H1 : 60 * h + mi < T → ∀ y m d, post (lN (1440 * D + (60 * h + mi))) (y, m, d, a1, a2, a3, a4))
    (H2 : T ≤ 60 * h + mi → 1 ≤ D → ∀ y m d, post (lN (1440 * (D - 1) + (60 * h + mi))) (y, m, d, a1, a2, a3, a4))
    (H3 : T ≤ 60 * h + mi → D = 0 → ∀ y m d, post (-2) (y, m, d, a1, a2, a3, a4)) :
    wpX_previous post (f0, f1, f2, a1, a2, a3, a4) (nI r) (lN (1440 * D + T)) := by
  unfold wpX_previous
  dsimp only
  refine cc_isRule hr (br_f (by decide) (cc_llt 0 (1440 * D + T) (fun z => cc_llt (1440 * D + T) 210379680 (fun _ => ?_) (fun z => absurd z (by omega))) (fun z => H3 (by omega) (by omega) _ _ _)))
  have e1 : lN (1440 * D + T) - 1 = lN (1440 * D + T - 1) := lN_sub (b := 1) (by omega)
  rw [e1]
  unfold wX_previous_38
  refine ⟨by decide, nm_r (cc_day64 (show 1440 * D + T - 1 < 2 ^ 62 by omega)) ⟨by decide, nm_r (cc_time64 (show 1440 * D + T - 1 < 2 ^ 62 by omega)) ⟨3, ?_⟩⟩⟩
  rcases Nat.eq_zero_or_pos T with hT0 | hT0
  · rw [show (1440 * D + T - 1) / 1440 = D - 1 by omega, show (1440 * D + T - 1) % 1440 = 1439 by omega]
    exact cc_pstep K hr em eh hm hh e2 e3 e4 (by omega) (by omega) (fun _ => H2 (by omega) (by omega)) (fun q => absurd q (by omega))
  · rw [show (1440 * D + T - 1) / 1440 = D by omega, show (1440 * D + T - 1) % 1440 = T - 1 by omega]
    refine cc_pstep K hr em eh hm hh e2 e3 e4 hD (by omega) (fun q => H1 (by omega)) (fun q y m d => ?_)
    cases D with
    | zero => exact br_t (by decide) (H3 (by omega) rfl _ _ _)
    | succ D =>
      rw [pk_m1]
      exact cc_pstep (t := 1439) K hr em eh hm hh e2 e3 e4 (by omega) (by omega) (fun _ => H2 (by omega) (by omega)) (fun q => absurd q (by omega))
/-! dueOn, date -/
theorem cc_isDay {post : Int32 → Prop} {d : Nat} (hd : d < 146097) (H : post 1) : wpX_isDay post () (nI d) :=
  br_f (nI_pos (by omega)) (br_f (nI_ge (b := 146097) hd (by decide)) H)
theorem cc_dueOn {post : Int32 → St2 → Prop} {f0 f1 f2 : Int32} {a1 : Nat → Int64} {a2 a3 a4 : Nat → Int32} {g : Nat → Option Nat} (K : cc_K g a1 a2 a3 a4) {r h mi d : Nat} (hr : r < 4) (em : g (5 * r + 0) = some mi) (eh : g (5 * r + 1) = some h) (hm : mi < 60) (hh : h < 24) (e2 : g (5 * r + 2) = none) (e3 : g (5 * r + 3) = none) (e4 : g (5 * r + 4) = none) (hd : d < 146097)
    (H : ∀ y m d, post 1 (y, m, d, a1, a2, a3, a4)) : wpX_dueOn post (f0, f1, f2, a1, a2, a3, a4) (nI r) (nI d) := by
  obtain ⟨Y, M, Q, S⟩ := cc_split d hd
  unfold wpX_dueOn
  dsimp only
  refine cc_isRule hr (br_f (by decide) (cc_isDay hd (br_f (by decide) (cc_isDue K hr hd S (fun _ => ?_) (fun z => absurd ⟨cc_ok_n e3, (cc_df_n e2).mpr (cc_ok_n e4)⟩ z)))))
  exact br_f (by decide) (cc_valuesOf K 0 hr (by decide) em (Nat.zero_le _) (by show mi ≤ 59; omega) (cc_valuesOf K 1 hr (by decide) eh (Nat.zero_le _) (by show h ≤ 23; omega) (H _ _ _)))
theorem cc_date {post : Int32 → St2 → Prop} {f0 f1 f2 : Int32} {a1 : Nat → Int64} {a2 a3 a4 : Nat → Int32} {d Y M Q : Nat} (hd : d < 146097) (S : cc_Sp d Y M Q) (H : post (nI (10000 * Y + 100 * M + Q)) (nI Y, nI M, nI Q, a1, a2, a3, a4)) : wpX_date post (f0, f1, f2, a1, a2, a3, a4) (nI d) := by
  obtain ⟨y1, y2, m1, m2, q1, q2, sp⟩ := S
  unfold wpX_date
  dsimp only
  refine cc_isDay hd (br_f (by decide) (sp _ _ _ _ _ _ _ _ ?_))
  dsimp only
  rw [show (10000 : Int32) = nI 10000 from rfl, show (100 : Int32) = nI 100 from rfl, pk_mul, pk_mul, nI_add, nI_add]
  exact H
/-! fits -/
def cc_fit (g : Nat → Option Nat) (r d t M Q : Nat) : Prop := cc_ok (g (5 * r + 1)) (t / 60) ∧ cc_ok (g (5 * r + 0)) (t % 60) ∧ cc_ok (g (5 * r + 3)) M ∧ cc_df g r d Q
theorem cc_fits {post : Int32 → St2 → Prop} {f0 f1 f2 : Int32} {a1 : Nat → Int64} {a2 a3 a4 : Nat → Int32} {g : Nat → Option Nat} (K : cc_K g a1 a2 a3 a4) {r d t Y M Q : Nat} (hr : r < 4) (hd : d < 146097) (ht : t < 1440) (S : cc_Sp d Y M Q)
    (Ht : cc_fit g r d t M Q → post 1 (nI Y, nI M, nI Q, a1, a2, a3, a4)) (Hf : ¬ cc_fit g r d t M Q → post 0 (nI Y, nI M, nI Q, a1, a2, a3, a4)) :
    wpX_fits post (f0, f1, f2, a1, a2, a3, a4) (nI r) (lN (1440 * d + t)) := by
  obtain ⟨y1, y2, m1, m2, q1, q2, sp⟩ := S
  have d1 : (1440 * d + t) / 1440 = d := by omega
  have d2 : (1440 * d + t) % 1440 = t := by omega
  have e1 : nI t / 60 = nI (t / 60) := pk_div (d := 60) (by omega) (by decide) (by decide)
  have e2 : nI t - nI t / 60 * 60 = nI (t % 60) := pk_rem (d := 60) (by omega) (by decide) (by decide)
  unfold wpX_fits
  dsimp only
  refine cc_isRule hr (br_f (by decide) (cc_llt (1440 * d + t) 0 (fun z => absurd z (by omega)) (fun _ => cc_llt (1440 * d + t) 210379680 (fun _ => ⟨by decide, nm_r (e' := nI d) (by rw [cc_day64 (by omega), d1]) ⟨by decide, nm_r (e' := nI t) (by rw [cc_time64 (by omega), d2]) ?_⟩⟩) (fun z => absurd z (by omega)))))
  refine sp _ _ _ _ _ _ _ _ ?_
  dsimp only
  rw [e2, e1]
  have no : ¬ cc_fit g r d t M Q → wX_fits_80 post (nI r) (nI d) (nI Y) (nI M) (nI Q) a1 a2 a3 a4 := fun z => br_t rfl (Hf z)
  refine ⟨by decide, cc_isAllowed K 1 (t / 60) hr (by decide) (Nat.zero_le _) (by show t / 60 ≤ 23; omega) (fun p1 => br_f (by decide) ⟨by decide, cc_isAllowed K 0 (t % 60) hr (by decide) (Nat.zero_le _) (by show t % 60 ≤ 59; omega) (fun p2 => br_f (by decide) ?_) (fun p2 => br_t rfl (no (fun q => p2 q.2.1)))⟩) (fun p1 => br_t rfl (no (fun q => p1 q.1)))⟩
  unfold wX_fits_81
  exact br_f (by decide) (cc_isAllowed K 3 M hr (by decide) m1 m2 (fun p3 => br_f (by decide) (cc_dayFits K hr hd q1 q2 (fun p4 => br_f (by decide) (Ht ⟨p1, p2, p3, p4⟩)) (fun p4 => br_t rfl (Hf (fun q => p4 q.2.2.2))))) (fun p3 => br_t rfl (Hf (fun q => p3 q.2.2.1))))
/-! dueDays, of a rule with one weekday: over no day, and over seven -/
theorem cc_due0 {post : Int32 → St2 → Prop} {f0 f1 f2 : Int32} {a1 : Nat → Int64} {a2 a3 a4 : Nat → Int32} {r d : Nat} (hr : r < 4) (hd : d < 146097) (H : ∀ y m d, post 0 (y, m, d, a1, a2, a3, a4)) : wpX_dueDays post (f0, f1, f2, a1, a2, a3, a4) (nI r) (nI d) 0 := by
  unfold wpX_dueDays
  dsimp only
  refine cc_isRule hr (br_f (by decide) (br_f (by decide) (br_t (by decide) (br_t (by decide) ⟨1, ?_⟩))))
  exact pk_le d d (fun _ => H _ _ _) (fun z => absurd z (by omega)) (hx := nI_add d 0)
theorem cc_due7 {post : Int32 → St2 → Prop} {f0 f1 f2 : Int32} {a1 : Nat → Int64} {a2 a3 a4 : Nat → Int32} {g : Nat → Option Nat} (K : cc_K g a1 a2 a3 a4) {r d : Nat} (c : Nat) (hr : r < 4) (hd : d ≤ 146090) (e2 : g (5 * r + 2) = none) (e3 : g (5 * r + 3) = none) (c1 : d ≤ c) (c2 : c < d + 7) (hc : ∀ i, d ≤ i → i < d + 7 → (cc_ok (g (5 * r + 4)) ((i + 6) % 7) ↔ i = c))
    (H : ∀ y m d, post 1 (y, m, d, a1, a2, a3, a4)) : wpX_dueDays post (f0, f1, f2, a1, a2, a3, a4) (nI r) (nI d) 7 := by
  have e7 : nI d + 7 = nI (d + 7) := nI_add d 7
  unfold wpX_dueDays
  dsimp only
  refine cc_isRule hr (br_f (by decide) (br_f (by decide) (br_t (by decide) (br_f (by decide) (cc_isDay (by omega) (br_f (by decide) (pk_le (d + 7) 146097 (fun _ => ?_) (fun z => absurd z (by omega)) (hx := e7))))))))
  refine pk_loop (fun n i (s : Int32 × Int32 × Int32 × Int32) => wX_dueDays_51 post (nI r) (nI d) 7 n s.1 (nI i) s.2.1 s.2.2.1 s.2.2.2 a1 a2 a3 a4) (fun i s => d ≤ i ∧ (i ≤ c → s.1 = 0) ∧ (c < i → s.1 = 1)) (d + 7) d (0, f0, f1, f2) (by omega) ⟨Nat.le_refl _, fun _ => rfl, fun z => absurd z (by omega)⟩ ?_ ?_
  · intro n s h
    refine pk_le (d + 7) (d + 7) (fun _ => ?_) (fun z => absurd z (by omega)) (hx := e7)
    rw [h.2.2 (by omega)]
    exact H _ _ _
  · intro n i s hi h hw
    obtain ⟨Y, M, Q, S⟩ := cc_split i (by omega)
    refine pk_le (d + 7) i (fun z => absurd z (by omega)) (fun _ => cc_isDue K hr (by omega) S (fun p => ?_) (fun p => ?_)) (hx := e7)
    · have pc : i = c := (hc i h.1 hi).mp ((cc_df_n e2).mp p.2)
      refine br_f (by decide) (nm_r (e' := 1) (by rw [h.2.1 (by omega)]; rfl) (nm_r (nI_1 i) (hw (1, nI Y, nI M, nI Q) ⟨by omega, fun q => absurd q (by omega), fun _ => rfl⟩)))
    · have pc : ¬ i = c := fun q => p ⟨cc_ok_n e3, (cc_df_n e2).mpr ((hc i h.1 hi).mpr q)⟩
      refine br_t rfl (nm_r (e' := s.1) (by simp) (nm_r (nI_1 i) (hw (s.1, nI Y, nI M, nI Q) ⟨by omega, fun q => h.2.1 (by omega), fun q => h.2.2 (by omega)⟩)))
end
section
/-! part 05: the law's checks, from the last back to the first -/
def cc_g5 (mi h w : Nat) : Nat → Option Nat := cc_up (cc_up (cc_up (cc_up (cc_up (fun _ => none) (5 * 0 + 0) mi) (5 * 0 + 1) h) (5 * 1 + 0) mi) (5 * 1 + 1) h) (5 * 1 + 4) w
def cc_g6 (mi h w q : Nat) : Nat → Option Nat := cc_up (cc_g5 mi h w) (5 * 2 + 2) q
def cc_g7 (mi h w q : Nat) : Nat → Option Nat := cc_up (cc_g6 mi h w q) (5 * 2 + 4) w
/-- the six numbers of the law -/
def cc_C (d t h mi w q : Nat) : Prop := d < 146097 ∧ t < 1440 ∧ h < 24 ∧ mi < 60 ∧ w < 7 ∧ 1 ≤ q ∧ q ≤ 31
/-- the days to the weekday -/
def cc_ah (d w : Nat) : Nat := (w + 7 - (d + 6) % 7) % 7
theorem cc_ah_lt (d w : Nat) : cc_ah d w < 7 := Nat.mod_lt _ (by decide)
theorem cc_ah_eq {d w i : Nat} (hw : w < 7) (h1 : d ≤ i) (h2 : i < d + 7) : w = (i + 6) % 7 ↔ i = d + cc_ah d w := by
  unfold cc_ah
  omega
theorem cc_ah_i {d w : Nat} (hw : w < 7) : nI w - nI ((d + 6) % 7) + 7 - (nI w - nI ((d + 6) % 7) + 7) / 7 * 7 = nI (cc_ah d w) := by
  have t : ∀ a, a < 7 → ∀ b, b < 7 → nI a - nI b + 7 - (nI a - nI b + 7) / 7 * 7 = nI ((a + 7 - b) % 7) := by decide +kernel
  exact t w hw _ (Nat.mod_lt _ (by decide))
theorem cc_fit0 {d t h mi w M Q : Nat} (hm : mi < 60) : cc_fit (cc_g5 mi h w) 0 d t M Q ↔ t = 60 * h + mi := by
  have e0 : cc_g5 mi h w (5 * 0 + 0) = some mi := rfl
  have e1 : cc_g5 mi h w (5 * 0 + 1) = some h := rfl
  constructor
  · intro k
    have k1 := (cc_ok_s e1).mp k.1
    have k2 := (cc_ok_s e0).mp k.2.1
    omega
  · intro e
    exact ⟨(cc_ok_s e1).mpr (by omega), (cc_ok_s e0).mpr (by omega), cc_ok_n rfl, (cc_df_n rfl).mpr (cc_ok_n rfl)⟩
theorem cc_fit6 {d t h mi w q M Q : Nat} : cc_fit (cc_g6 mi h w q) 2 d t M Q ↔ q = Q := by
  have e2 : cc_g6 mi h w q (5 * 2 + 2) = some q := rfl
  constructor
  · intro k
    exact k.2.2.2.elim (fun z => (cc_ok_s e2).mp z.2.1) (fun z => absurd (Or.inr rfl) z.1)
  · intro e
    exact ⟨cc_ok_n rfl, cc_ok_n rfl, cc_ok_n rfl, Or.inl ⟨Or.inr rfl, (cc_ok_s e2).mpr e, cc_ok_n rfl⟩⟩
theorem cc_fit7 {d t h mi w q M Q : Nat} : cc_fit (cc_g7 mi h w q) 2 d t M Q ↔ (q = Q ∨ w = (d + 6) % 7) := by
  have e2 : cc_g7 mi h w q (5 * 2 + 2) = some q := rfl
  have e4 : cc_g7 mi h w q (5 * 2 + 4) = some w := rfl
  have ns : ¬ cc_str (cc_g7 mi h w q) 2 := fun s => s.elim (fun z => absurd (e2.symm.trans z) (Option.some_ne_none q)) (fun z => absurd (e4.symm.trans z) (Option.some_ne_none w))
  constructor
  · intro k
    exact k.2.2.2.elim (fun z => absurd z.1 ns) (fun z => z.2.elim (fun p => Or.inl ((cc_ok_s e2).mp p)) (fun p => Or.inr ((cc_ok_s e4).mp p)))
  · intro e
    exact ⟨cc_ok_n rfl, cc_ok_n rfl, cc_ok_n rfl, Or.inr ⟨ns, e.elim (fun p => Or.inl ((cc_ok_s e2).mpr p)) (fun p => Or.inr ((cc_ok_s e4).mpr p))⟩⟩
variable {post : Int32 → St0 → Prop} {mc ms kc ks : Nat} {y m dd : Int32} {a1 : Nat → Int64} {a2 a3 a4 : Nat → Int32} {d t h mi w q : Nat}
theorem cc_510 (hp : post 1 ()) (C : cc_C d t h mi w q) (K : cc_K (cc_g7 mi h w q) a1 a2 a3 a4) {z : Int32} : wL_lawOf_510 post mc ms (nI d) z z kc ks y m dd a1 a2 a3 a4 := by
  obtain ⟨hd, ht, hh, hm, hw, q1, q2⟩ := C
  have al := cc_ah_lt d w
  have e4 : cc_g7 mi h w q (5 * 1 + 4) = some w := rfl
  unfold wL_lawOf_510
  refine br_t rfl (pk_lt 146090 d (fun _ => ?_) (fun z => ?_))
  · unfold wL_lawOf_528
    exact cc_due0 (r := 1) (by decide) hd (fun _ _ _ => br_f (by decide) (br_t rfl hp))
  · unfold wL_lawOf_528
    exact cc_due7 (r := 1) K (d + cc_ah d w) (by decide) z rfl rfl (by omega) (by omega) (fun i i1 i2 => (cc_ok_s e4).trans (cc_ah_eq hw i1 i2)) (fun _ _ _ => br_t rfl (br_t rfl hp))
theorem cc_rem100 {Y M Q : Nat} (hY : Y < 2400) (hM : M ≤ 12) (hQ : Q ≤ 31) : nI (10000 * Y + 100 * M + Q) - nI (10000 * Y + 100 * M + Q) / 100 * 100 = nI Q := by
  have e : (10000 * Y + 100 * M + Q) % 100 = Q := by omega
  have r := pk_rem (a := 10000 * Y + 100 * M + Q) (d := 100) (by omega) (by decide) (by decide)
  rw [e] at r
  exact r
theorem cc_457 (hp : post 1 ()) (C : cc_C d t h mi w q) (K : cc_K (cc_g6 mi h w q) a1 a2 a3 a4) {Y M Q : Nat} (S : cc_Sp d Y M Q) {z : Int32} :
    wL_lawOf_457 post mc ms (nI d) (nI w) (nI q) (lN (1440 * d + t)) (nI ((d + 6) % 7)) (nI (10000 * Y + 100 * M + Q)) z z kc ks y m dd a1 a2 a3 a4 := by
  have C' := C
  have S' := S
  obtain ⟨hd, ht, hh, hm, hw, q1, q2⟩ := C
  obtain ⟨y1, y2, m1, m2, r1, r2, sp⟩ := S
  unfold wL_lawOf_457
  refine br_t rfl (cc_allow K 2 4 w (by decide) (by decide) (Nat.zero_le _) (by show w ≤ 6; omega) rfl (fun _ b1 b2 K7 => ?_))
  have K7' : cc_K (cc_g7 mi h w q) b1 b2 a3 a4 := K7
  dsimp only
  rw [cc_rem100 y2 m2 r2]
  refine cc_fits (r := 2) K7' (by decide) hd ht S' (fun f => ⟨by decide, pk_eq Q q (fun e => ?_) (fun e => pk_eq ((d + 6) % 7) w (fun e2 => ?_) (fun e2 => ?_))⟩) (fun f => ⟨by decide, pk_eq Q q (fun e => ?_) (fun e => pk_eq ((d + 6) % 7) w (fun e2 => ?_) (fun e2 => ?_))⟩)
  · exact cc_510 hp C' K7'
  · exact cc_510 hp C' K7'
  · exact absurd (cc_fit7.mp f) (by omega)
  · exact absurd (cc_fit7.mpr (Or.inl e.symm)) f
  · exact absurd (cc_fit7.mpr (Or.inr e2.symm)) f
  · exact cc_510 hp C' K7'
theorem cc_397 (hp : post 1 ()) (C : cc_C d t h mi w q) (K : cc_K (cc_g5 mi h w) a1 a2 a3 a4) {x : Int64} :
    wL_lawOf_397 post mc ms (nI d) (nI w) (nI q) (lN (1440 * d + t)) x (nI ((d + 6) % 7)) x kc ks y m dd a1 a2 a3 a4 := by
  have C' := C
  obtain ⟨hd, ht, hh, hm, hw, q1, q2⟩ := C
  obtain ⟨Y, M, Q, S⟩ := cc_split d hd
  have S' := S
  obtain ⟨y1, y2, m1, m2, r1, r2, sp⟩ := S
  unfold wL_lawOf_397
  refine br_t rfl (cc_allow K 2 2 q (by decide) (by decide) q1 q2 rfl (fun _ b1 b2 K6 => ?_))
  have K6' : cc_K (cc_g6 mi h w q) b1 b2 a3 a4 := K6
  dsimp only
  refine cc_date hd S' ?_
  dsimp only
  rw [cc_rem100 y2 m2 r2]
  refine cc_fits (r := 2) K6' (by decide) hd ht S' (fun f => ⟨by decide, pk_eq Q q (fun e => ?_) (fun e => ?_)⟩) (fun f => ⟨by decide, pk_eq Q q (fun e => ?_) (fun e => ?_)⟩)
  · exact cc_457 hp C' K6' S'
  · exact absurd (cc_fit6.mp f) (by omega)
  · exact absurd (cc_fit6.mpr e.symm) f
  · exact cc_457 hp C' K6' S'
theorem cc_383 (hp : post 1 ()) (C : cc_C d t h mi w q) (K : cc_K (cc_g5 mi h w) a1 a2 a3 a4) {Z : Nat} {x : Int64} (hZ : Z < 2 ^ 62) (h1 : Z ≤ 210379679 → x = lN Z) (h2 : 210379679 < Z → x = -2) :
    wL_lawOf_383 post mc ms (nI d) (nI w) (nI q) (lN (1440 * d + t)) (lN Z) (nI ((d + 6) % 7)) x kc ks y m dd a1 a2 a3 a4 := by
  unfold wL_lawOf_383
  refine cc_lle Z 210379679 (fun z => ?_) (fun z => ?_)
  · rw [h1 z]
    exact cc_397 hp C K
  · rw [h2 z]
    exact cc_397 hp C K
theorem cc_312 (hp : post 1 ()) (C : cc_C d t h mi w q) (K : cc_K (cc_g5 mi h w) a1 a2 a3 a4) {z : Int32} :
    wL_lawOf_312 post mc ms (nI d) (nI w) (nI q) (lN (1440 * d + t)) (lN (1440 * d + (60 * h + mi))) z z kc ks y m dd a1 a2 a3 a4 := by
  have C' := C
  obtain ⟨hd, ht, hh, hm, hw, q1, q2⟩ := C
  have al := cc_ah_lt d w
  have e4 : cc_g5 mi h w (5 * 1 + 4) = some w := rfl
  have ae : ∀ i, d ≤ i → i < d + 7 → (w = (i + 6) % 7 ↔ i = d + cc_ah d w) := fun i i1 i2 => cc_ah_eq hw i1 i2
  unfold wL_lawOf_312
  refine br_t rfl ⟨by decide, nm_r (cc_wd (by omega)) ⟨by decide, nm_r (cc_ah_i hw) ?_⟩⟩
  have ex : lN (1440 * d + (60 * h + mi)) + (1440 * (nI (cc_ah d w)).toInt64) = lN (1440 * (d + cc_ah d w) + (60 * h + mi)) := by
    rw [nI_l (by omega), show (1440 : Int64) = lN 1440 from rfl, lN_mul, lN_add]
    congr 1
    omega
  have ex7 : lN (1440 * d + (60 * h + mi)) + 10080 = lN (1440 * (d + 7) + (60 * h + mi)) := by
    rw [show (10080 : Int64) = lN 10080 from rfl, lN_add]
    congr 1
    omega
  by_cases c0 : cc_ah d w = 0 ∧ 60 * h + mi ≤ t
  · refine cc_next (r := 1) K (d + 7) (by decide) rfl rfl hm hh rfl rfl (by omega) ((cc_ok_s e4).mpr ?_) (by omega) (fun i i1 i2 => ?_) (fun z y m dd => ?_) (fun z y m dd => ?_)
    · have := (ae d (by omega) (by omega)).mpr (by omega)
      omega
    · have i3 := (cc_ok_s e4).mp i1
      rcases Nat.lt_or_ge i (d + 7) with i4 | i4
      · have i5 := (ae i (by omega) i4).mp i3
        omega
      · exact i4
    · exact nm_e (pk_eq (cc_ah d w) 0 (fun _ => cc_llt (1440 * d + t) (1440 * d + (60 * h + mi)) (fun z => absurd z (by omega)) (fun _ => nm_r ex7 (cc_383 hp C' K (by omega) (fun _ => rfl) (fun z => absurd z (by omega))))) (fun z => absurd c0.1 z))
    · exact nm_e (pk_eq (cc_ah d w) 0 (fun _ => cc_llt (1440 * d + t) (1440 * d + (60 * h + mi)) (fun z => absurd z (by omega)) (fun _ => nm_r ex7 (cc_383 hp C' K (by omega) (fun z => absurd z (by omega)) (fun _ => rfl)))) (fun z => absurd c0.1 z))
  · have hN : 1440 * d + t < 1440 * (d + cc_ah d w) + (60 * h + mi) := by
      rcases Nat.eq_zero_or_pos (cc_ah d w) with z | z
      · have : ¬ 60 * h + mi ≤ t := fun k => c0 ⟨z, k⟩
        omega
      · omega
    refine cc_next (r := 1) K (d + cc_ah d w) (by decide) rfl rfl hm hh rfl rfl (by omega) ((cc_ok_s e4).mpr ((ae _ (by omega) (by omega)).mpr rfl)) hN (fun i i1 i2 => ?_) (fun z y m dd => ?_) (fun z y m dd => ?_)
    · have i3 := (cc_ok_s e4).mp i1
      rcases Nat.lt_or_ge i (d + 7) with i4 | i4
      · have i5 := (ae i (by omega) i4).mp i3
        omega
      · omega
    · refine nm_r ex ?_
      have k : ∀ (y m dd : Int32), wL_lawOf_383 post mc ms (nI d) (nI w) (nI q) (lN (1440 * d + t)) (lN (1440 * (d + cc_ah d w) + (60 * h + mi))) (nI ((d + 6) % 7)) (lN (1440 * (d + cc_ah d w) + (60 * h + mi))) kc ks y m dd a1 a2 a3 a4 := fun _ _ _ => cc_383 hp C' K (by omega) (fun _ => rfl) (fun z => absurd z (by omega))
      exact pk_eq (cc_ah d w) 0 (fun c1 => cc_llt (1440 * d + t) (1440 * d + (60 * h + mi)) (fun _ => k _ _ _) (fun c2 => absurd ⟨c1, by omega⟩ c0)) (fun _ => k _ _ _)
    · refine nm_r ex ?_
      have k : ∀ (y m dd : Int32), wL_lawOf_383 post mc ms (nI d) (nI w) (nI q) (lN (1440 * d + t)) (lN (1440 * (d + cc_ah d w) + (60 * h + mi))) (nI ((d + 6) % 7)) (-2) kc ks y m dd a1 a2 a3 a4 := fun _ _ _ => cc_383 hp C' K (by omega) (fun z => absurd z (by omega)) (fun _ => rfl)
      exact pk_eq (cc_ah d w) 0 (fun c1 => cc_llt (1440 * d + t) (1440 * d + (60 * h + mi)) (fun _ => k _ _ _) (fun c2 => absurd ⟨c1, by omega⟩ c0)) (fun _ => k _ _ _)
theorem cc_261 (hp : post 1 ()) (C : cc_C d t h mi w q) (K : cc_K (cc_g5 mi h w) a1 a2 a3 a4) {x : Int64} :
    wL_lawOf_261 post mc ms (nI d) (nI w) (nI q) (lN (1440 * d + t)) (lN (1440 * d + (60 * h + mi))) x x kc ks y m dd a1 a2 a3 a4 := by
  have C' := C
  obtain ⟨hd, ht, hh, hm, hw, q1, q2⟩ := C
  obtain ⟨Y, M, Q, S⟩ := cc_split d hd
  unfold wL_lawOf_261
  refine br_t rfl (cc_dueOn (r := 0) K (by decide) rfl rfl hm hh rfl rfl rfl hd (fun y m dd => ?_))
  dsimp only
  refine cc_fits (r := 0) K (by decide) hd ht S (fun f => br_t rfl (cc_leq (1440 * d + t) (1440 * d + (60 * h + mi)) (fun e => ?_) (fun e => ?_))) (fun f => br_t rfl (cc_leq (1440 * d + t) (1440 * d + (60 * h + mi)) (fun e => ?_) (fun e => ?_)))
  · exact cc_312 hp C' K
  · exact absurd ((cc_fit0 hm).mp f) (by omega)
  · exact absurd ((cc_fit0 hm).mpr (by omega)) f
  · exact cc_312 hp C' K
theorem cc_247 (hp : post 1 ()) (C : cc_C d t h mi w q) (K : cc_K (cc_g5 mi h w) a1 a2 a3 a4) {x z0 : Int64} (h1 : 0 ≤ z0 → x = z0) (h2 : ¬ 0 ≤ z0 → x = -2) :
    wL_lawOf_247 post mc ms (nI d) (nI w) (nI q) (lN (1440 * d + t)) (lN (1440 * d + (60 * h + mi))) x z0 kc ks y m dd a1 a2 a3 a4 := by
  unfold wL_lawOf_247
  refine br_c (fun z => ?_) (fun z => ?_)
  · rw [h1 z]
    exact cc_261 hp C K
  · rw [h2 z]
    exact cc_261 hp C K
theorem cc_neg64 : ∀ a, a < 1440 → ¬ (0 : Int64) ≤ lN a - 1440 := by decide +kernel
theorem cc_208 (hp : post 1 ()) (C : cc_C d t h mi w q) (K : cc_K (cc_g5 mi h w) a1 a2 a3 a4) {x : Int64} :
    wL_lawOf_208 post mc ms (nI d) (nI w) (nI q) (lN (1440 * d + t)) (lN (1440 * d + (60 * h + mi))) x x kc ks y m dd a1 a2 a3 a4 := by
  have C' := C
  obtain ⟨hd, ht, hh, hm, hw, q1, q2⟩ := C
  have pos : ∀ N, N < 2 ^ 62 → (0 : Int64) ≤ lN N := fun N hN => (pk_lLE (a := 0) (by decide) (by omega)).mpr (Nat.zero_le N)
  unfold wL_lawOf_208
  refine br_t rfl (cc_prev (r := 0) K (by decide) rfl rfl hm hh rfl rfl rfl hd ht (fun z y m dd => ?_) (fun z z1 y m dd => ?_) (fun z z0 y m dd => ?_))
  · exact cc_lle (1440 * d + t) (1440 * d + (60 * h + mi)) (fun k => absurd k (by omega)) (fun _ => cc_247 hp C' K (fun _ => rfl) (fun k => absurd (pos _ (by omega)) k))
  · have e : lN (1440 * d + (60 * h + mi)) - 1440 = lN (1440 * (d - 1) + (60 * h + mi)) := by
      rw [show (1440 : Int64) = lN 1440 from rfl, lN_sub (by omega)]
      congr 1
      omega
    refine cc_lle (1440 * d + t) (1440 * d + (60 * h + mi)) (fun _ => ?_) (fun k => absurd k (by omega))
    rw [e]
    exact cc_247 hp C' K (fun _ => rfl) (fun k => absurd (pos _ (by omega)) k)
  · refine cc_lle (1440 * d + t) (1440 * d + (60 * h + mi)) (fun _ => cc_247 hp C' K (fun k => absurd k ?_) (fun _ => rfl)) (fun k => absurd k (by omega))
    exact cc_neg64 _ (by omega)
theorem cc_192 (hp : post 1 ()) (C : cc_C d t h mi w q) (K : cc_K (cc_g5 mi h w) a1 a2 a3 a4) {Z : Nat} {x : Int64} (hZ : Z < 2 ^ 62) (h1 : Z ≤ 210379679 → x = lN Z) (h2 : 210379679 < Z → x = -2) :
    wL_lawOf_192 post mc ms (nI d) (nI w) (nI q) (lN (1440 * d + t)) (lN (1440 * d + (60 * h + mi))) x (lN Z) kc ks y m dd a1 a2 a3 a4 := by
  unfold wL_lawOf_192
  refine cc_lle Z 210379679 (fun z => ?_) (fun z => ?_)
  · rw [h1 z]
    exact cc_208 hp C K
  · rw [h2 z]
    exact cc_208 hp C K
theorem cc_reduce {post : Int32 → Prop} {x p1 : Int32} (n : Nat) (h0 : 0 < n) (hn : n < 2 ^ 31) (H : ∀ j, j < n → post (nI j)) (hp : p1 = nI n := by rfl) : wpL_reduce post () x p1 := by
  subst hp
  unfold wpL_reduce
  refine ⟨nI_ne0 h0 hn, ?_⟩
  rw [pk_and x 31 (m := 2147483647) (by decide), pk_rem (Nat.mod_lt _ (by decide)) h0 hn]
  exact H _ (Nat.mod_lt _ h0)
theorem cc_lawOf (hp : post 1 ()) (p0 p1 p2 p3 p4 p5 : Int32) : wpL_lawOf post 42 672 () p0 p1 p2 p3 p4 p5 := by
  unfold wpL_lawOf
  refine cc_reduce 60 (by decide) (by decide) (fun mi hm => cc_reduce 24 (by decide) (by decide) (fun h hh => cc_reduce 146097 (by decide) (by decide) (fun d hd => cc_reduce 1440 (by decide) (by decide) (fun t ht => cc_reduce 7 (by decide) (by decide) (fun w hw => cc_reduce 31 (by decide) (by decide) (fun v hv => ?_))))))
  refine nm_r (nI_add 1 v) ⟨by decide, by decide, 4, 50, by decide, by decide, ?_⟩
  have C : cc_C d t h mi w (1 + v) := ⟨hd, ht, hh, hm, hw, by omega, by omega⟩
  refine cc_init (by decide) (by decide) (fun y m dd a1 a2 a3 a4 K => ?_)
  dsimp only
  refine cc_allow K 0 0 mi (by decide) (by decide) (Nat.zero_le _) (by show mi ≤ 59; omega) rfl (fun _ a1 a2 K => ?_)
  dsimp only
  refine cc_allow K 0 1 h (by decide) (by decide) (Nat.zero_le _) (by show h ≤ 23; omega) rfl (fun _ a1 a2 K => ?_)
  dsimp only
  refine cc_allow K 1 0 mi (by decide) (by decide) (Nat.zero_le _) (by show mi ≤ 59; omega) rfl (fun _ a1 a2 K => ?_)
  dsimp only
  refine cc_allow K 1 1 h (by decide) (by decide) (Nat.zero_le _) (by show h ≤ 23; omega) rfl (fun _ a1 a2 K => ?_)
  dsimp only
  refine cc_allow K 1 4 w (by decide) (by decide) (Nat.zero_le _) (by show w ≤ 6; omega) rfl (fun _ a1 a2 K => ?_)
  have K5 : cc_K (cc_g5 mi h w) a1 a2 a3 a4 := K
  dsimp only
  refine nm_r (cc_min64 (by omega) (by omega)) (nm_r (e' := lN (1440 * d + (60 * h + mi))) ?_ ?_)
  · rw [show (60 : Int32) = nI 60 from rfl, pk_mul, cc_min64 (by omega) (by omega), nI_l (by omega), lN_add]
    congr 1
    omega
  have ex : lN (1440 * d + (60 * h + mi)) + 1440 = lN (1440 * (d + 1) + (60 * h + mi)) := by
    rw [show (1440 : Int64) = lN 1440 from rfl, lN_add]
    congr 1
    omega
  by_cases c : 60 * h + mi ≤ t
  · refine cc_next (r := 0) K5 (d + 1) (by decide) rfl rfl hm hh rfl rfl (by omega) (cc_ok_n rfl) (by omega) (fun i _ _ => by omega) (fun z y m dd => ?_) (fun z y m dd => ?_)
    · refine cc_lle (1440 * d + (60 * h + mi)) (1440 * d + t) (fun _ => ?_) (fun k => absurd k (by omega))
      rw [ex]
      exact cc_192 hp C K5 (by omega) (fun _ => rfl) (fun k => absurd k (by omega))
    · refine cc_lle (1440 * d + (60 * h + mi)) (1440 * d + t) (fun _ => ?_) (fun k => absurd k (by omega))
      rw [ex]
      exact cc_192 hp C K5 (by omega) (fun k => absurd k (by omega)) (fun _ => rfl)
  · refine cc_next (r := 0) K5 d (by decide) rfl rfl hm hh rfl rfl (by omega) (cc_ok_n rfl) (by omega) (fun i _ _ => by omega) (fun z y m dd => ?_) (fun z y m dd => absurd hd (by omega))
    exact cc_lle (1440 * d + (60 * h + mi)) (1440 * d + t) (fun k => absurd k (by omega)) (fun _ => cc_192 hp C K5 (by omega) (fun _ => rfl) (fun k => absurd k (by omega)))
end
section
/-! part 06: what is owed -/
theorem cc_cell {post : Int32 → Prop} {L : Nat} {xs : Nat → Int32} {p1 : Int32} (j : Nat) (hL : L ≤ 6) (hj : j < 6) (H : ∀ x, post x) (hp : p1 = nI j := by rfl) : wpL_cellAt post L xs () p1 := by
  subst hp
  exact pk_le L j (fun _ => H _) (fun z => ⟨pk_in j L z, H _⟩)
theorem i_vc (xs : Nat → Int32) (L : Nat) (hL : L ≤ 6) : wpL_law (fun r => r = 1) L xs :=
  cc_cell 0 hL (by decide) (fun _ => cc_cell 1 hL (by decide) (fun _ => cc_cell 2 hL (by decide) (fun _ => cc_cell 3 hL (by decide) (fun _ => cc_cell 4 hL (by decide) (fun _ => cc_cell 5 hL (by decide) (fun _ => ⟨42, 672, by decide, by decide, cc_lawOf (post := fun r _ => r = 1) rfl _ _ _ _ _ _⟩))))))
end
