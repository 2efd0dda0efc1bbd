section
/-! the numbers: inverses mod 97, the coefficients of series 0, the remainder -/
/-- the inverse of n mod 97 -/
def ls_iv (n : Nat) : Nat := n ^ 95 % 97
/-- coefficient n of series 0, whose first is r -/
def ls_v (r : Nat) : Nat → Nat
  | 0 => r
  | n + 1 => ls_v r n * ls_iv (n + 1) % 97
theorem ls_iv_lt (n : Nat) : ls_iv n < 97 := Nat.mod_lt _ (by decide)
theorem ls_v_lt {r : Nat} (hr : r < 97) : ∀ n, ls_v r n < 97
  | 0 => hr
  | _ + 1 => Nat.mod_lt _ (by decide)
theorem ls_iv_step : ∀ y, y < 97 → 2 ≤ y → 1 ≤ 97 % y ∧ (97 - 97 / y) * ls_iv (97 % y) % 97 = ls_iv y := by decide +kernel
theorem ls_der : ∀ k, k < 15 → ∀ v, v < 97 → (k + 1) * (v * ls_iv (k + 1) % 97) % 97 = v := by decide +kernel
theorem ls_iv1 : ls_iv 1 = 1 := by decide +kernel
theorem ls_v1 {r : Nat} (hr : r < 97) : ls_v r 1 = r := by
  show r * ls_iv 1 % 97 = r
  rw [ls_iv1, Nat.mul_one, Nat.mod_eq_of_lt hr]
theorem ls_v0 : ∀ n, ls_v 0 n = 0
  | 0 => rfl
  | n + 1 => by
    show ls_v 0 n * ls_iv (n + 1) % 97 = 0
    rw [ls_v0 n, Nat.zero_mul]
theorem ls_rem {w : Nat} (h : w < 2 ^ 31) : nI w - nI w / 97 * 97 = nI (w % 97) := pk_rem (d := 97) h (by decide) (by decide)
theorem ls_mlt {a b : Nat} (ha : a < 97) (hb : b < 97) : a * b < 10000 :=
  Nat.lt_of_le_of_lt (Nat.mul_le_mul (show a ≤ 96 by omega) (show b ≤ 96 by omega)) (by decide)
theorem ls_remN {x : Int32} {w : Nat} (hw : w ≤ 2 ^ 31) (hx : x.toInt = -(w : Int)) : (x - x / 97 * 97).toInt = -((w % 97 : Nat) : Int) := by
  have h97 : (97 : Int32).toInt = 97 := by decide
  have hd : (x / 97).toInt = -((w / 97 : Nat) : Int) := by
    rw [Int32.toInt_div, hx, h97, Int.neg_tdiv, Int.tdiv_eq_ediv_of_nonneg (by omega), Int.bmod_eq_of_le (by omega) (by omega)]
    omega
  have hm : (x / 97 * 97).toInt = -((w / 97 * 97 : Nat) : Int) := by
    rw [Int32.toInt_mul, hd, h97, Int.bmod_eq_of_le (by omega) (by omega)]
    omega
  rw [Int32.toInt_sub, hm, hx, Int.bmod_eq_of_le (by omega) (by omega)]
  omega
/-- both classes' 'reduced' answer one number below 97 -/
theorem ls_red (x : Int32) : ∃ r : Nat, r < 97 ∧ (∀ post : Int32 → Prop, post (nI r) → wpL_reduced post () x) ∧ (∀ post : Int32 → Prop, post (nI r) → wpX_reduced post () x) := by
  have h97 : ¬ (97 : Int32) = 0 := by decide
  by_cases hx : x < 0
  · rw [Int32.lt_iff_toInt_lt] at hx
    have h0 : (0 : Int32).toInt = 0 := by decide
    have h2 := Int32.le_toInt x
    obtain ⟨w, hw, e⟩ : ∃ w : Nat, w ≤ 2 ^ 31 ∧ x.toInt = -(w : Int) := ⟨(-x.toInt).toNat, by omega, by omega⟩
    have q := ls_remN hw e
    by_cases hz : w % 97 = 0
    · have e0 : x - x / 97 * 97 = nI 0 := Int32.toInt_inj.mp (by rw [q, hz]; decide)
      refine ⟨0, by decide, fun post h => ⟨h97, ?_⟩, fun post h => ⟨h97, nm_r e0 (br_t (by decide) h)⟩⟩
      rw [e0]
      exact br_t (by decide) ⟨h97, h⟩
    · have e0 : x - x / 97 * 97 + 97 = nI (97 - w % 97) := Int32.toInt_inj.mp (by
        rw [Int32.toInt_add, q, nI_toInt (by omega), show (97 : Int32).toInt = 97 from by decide, Int.bmod_eq_of_le (by omega) (by omega)]
        omega)
      have en : ¬ 0 ≤ x - x / 97 * 97 := by
        rw [Int32.le_iff_toInt_le, q, h0]
        omega
      refine ⟨97 - w % 97, by omega, fun post h => ⟨h97, br_f en ⟨h97, ?_⟩⟩, fun post h => ⟨h97, nm_e (br_f en ?_)⟩⟩
      · rw [e0]
        exact h
      · rw [e0]
        exact h
  · obtain ⟨j, hj, rfl⟩ := nI_of hx
    have e0 := ls_rem hj
    refine ⟨j % 97, Nat.mod_lt _ (by decide), fun post h => ⟨h97, ?_⟩, fun post h => ⟨h97, nm_r e0 (br_t (nI_pos' (by omega)) h)⟩⟩
    rw [e0]
    exact br_t (nI_pos' (by omega)) ⟨h97, h⟩
theorem ls_p0 (i : Nat) : 16 * (0 : Int32) + nI i = nI i := by
  show nI 16 * nI 0 + nI i = nI i
  rw [pk_mul, nI_add]
  exact congrArg nI (by omega)
theorem ls_p1 (i : Nat) : 16 * (1 : Int32) + nI i = nI (16 + i) := by
  show nI 16 * nI 1 + nI i = nI (16 + i)
  rw [pk_mul, nI_add]
theorem ls_p2 (i : Nat) : 16 * (2 : Int32) + nI i = nI (32 + i) := by
  show nI 16 * nI 2 + nI i = nI (32 + i)
  rw [pk_mul, nI_add]
theorem ls_neg1 {w : Nat} (h : w < 2 ^ 31) : ¬ nI w = -1 := by
  intro e
  have e' := congrArg Int32.toInt e
  rw [nI_toInt h, show (-1 : Int32).toInt = -1 from by decide] at e'
  omega
end
section
/-! one place: what it needs, what it computes; isSeries -/
section
variable {a1 a2 a3 a4 a5 a6 a7 a8 a9 b5 : Nat → Int32}
theorem ls_isS {post : Int32 → Prop} (s : Nat) (hs : s ≤ 7) (H : post 1) : wpX_isSeries post () (nI s) :=
  pk_lt s 0 (fun z => absurd z (by omega)) (fun _ => pk_lt 7 s (fun z => absurd z (by omega)) (fun _ => H))
theorem ls_shr {s n p : Nat} (hp : p = 16 * s + n) (hs : s < 8) (hn : n < 16) : nI p >>> ((4 : Int32) &&& 31) = nI s := by
  rw [pk_shrN (by omega) _ 4 (by decide)]
  exact congrArg nI (by omega)
theorem ls_and {s n p : Nat} (hp : p = 16 * s + n) (hs : s < 8) (hn : n < 16) : nI p &&& 15 = nI n := by
  rw [pk_andN (by omega) 4 (by decide)]
  exact congrArg nI (by omega)
/-- the i-th place that coefficient n of a series of kind kd over series 0 needs -/
def ls_nd (kd n i : Nat) : Int32 := if 0 < i then -1 else if kd = 5 then (if 15 ≤ n then -1 else nI (n + 1)) else if kd = 6 then (if n ≤ 0 then -1 else nI (n - 1)) else nI n
theorem ls_need {post : Int32 → Prop} (s n kd : Nat) {i p : Nat} (hp : p = 16 * s + n) (hs : s < 8) (hn : n < 16) (hi : i < 1000) (hk : kd = 4 ∨ kd = 5 ∨ kd = 6) (h1 : a1 s = nI kd) (h2 : a2 s = 0) (H : post (ls_nd kd n i)) :
    wpX_need post (a1, a2, a3, a4, a5, a6, a7, a8, a9) (nI p) (nI i) := by
  refine nm_r (ls_shr hp hs hn) (nm_r (ls_and hp hs hn) ⟨pk_in s 8 hs, nm_r (e' := nI 0) ?_ ⟨pk_in s 8 hs, nm_r (e' := nI kd) ?_ ?_⟩⟩)
  · rw [nI_clamp (by omega), h2]
    rfl
  · rw [nI_clamp (by omega), h1]
  refine pk_eq kd 3 (fun z => absurd z (by omega)) (fun _ => pk_eq kd 9 (fun z => absurd z (by omega)) (fun _ => pk_eq kd 7 (fun z => absurd z (by omega)) (fun _ => pk_eq kd 2 (fun z => absurd z (by omega)) (fun _ => ?_))))
  unfold ls_nd at H
  refine pk_lt 0 i (fun z => ?_) (fun z => pk_lt 1 kd (fun _ => pk_eq kd 5 (fun e => pk_le 15 n (fun g => ?_) (fun g => ?_)) (fun e => pk_eq kd 6 (fun e' => pk_le n 0 (fun g => ?_) (fun g => ?_)) (fun e' => pk_eq kd 8 (fun e'' => absurd e'' (by omega)) (fun _ => ?_)))) (fun z => absurd z (by omega)))
  · rw [if_pos z] at H
    exact H
  · rw [if_neg (show ¬ 0 < i by omega), if_pos e, if_pos g] at H
    exact H
  · rw [if_neg (show ¬ 0 < i by omega), if_pos e, if_neg (show ¬ 15 ≤ n by omega)] at H
    refine sb_at (P := post) ?_ H
    rw [nI_add, Nat.zero_add, nI_1]
  · rw [if_neg (show ¬ 0 < i by omega), if_neg e, if_pos e', if_pos g] at H
    exact H
  · rw [if_neg (show ¬ 0 < i by omega), if_neg e, if_pos e', if_neg (show ¬ n ≤ 0 by omega)] at H
    refine sb_at (P := post) ?_ H
    obtain ⟨m, rfl⟩ : ∃ m, n = m + 1 := ⟨n - 1, by omega⟩
    rw [nI_add, Nat.zero_add, nI_pred]
    rfl
  · rw [if_neg (show ¬ 0 < i by omega), if_neg e, if_neg e'] at H
    refine sb_at (P := post) ?_ H
    rw [nI_add, Nat.zero_add]
theorem ls_247 {post : Int32 → St2 → Prop} {p w : Nat} {x7 : Int32} (hp : p < 128) (hw : w < 2 ^ 31) (hx : x7 = nI w) (H : post 1 (a1, a2, a3, a4, upd a5 p (nI (w % 97)), a6, a7, a8, a9)) :
    wX_compute_247 post (nI p) x7 a1 a2 a3 a4 a5 a6 a7 a8 a9 := by
  refine ⟨by decide, pk_in p 128 hp, nm_r (e' := upd a5 p (nI (w % 97))) ?_ H⟩
  rw [nI_clamp (show p < 2 ^ 31 by omega), hx, ls_rem hw]
theorem ls_comp {post : Int32 → St2 → Prop} (s n kd w : Nat) {p : Nat} (hp : p = 16 * s + n) (hs : s < 8) (hn : n < 16) (hk : kd = 4 ∨ kd = 5 ∨ kd = 6) (h1 : a1 s = nI kd) (h2 : a2 s = 0) (hw : w < 2 ^ 31)
    (h4 : kd = 4 → a3 s * a5 n = nI w) (h5 : kd = 5 → n < 15 ∧ nI (n + 1) * a5 (n + 1) = nI w) (h60 : kd = 6 → n = 0 → a3 s = nI w) (h61 : kd = 6 → 0 < n → a5 (n - 1) * a9 n = nI w)
    (H : post 1 (a1, a2, a3, a4, upd a5 p (nI (w % 97)), a6, a7, a8, a9)) : wpX_compute post (a1, a2, a3, a4, a5, a6, a7, a8, a9) (nI p) := by
  refine nm_r (ls_shr hp hs hn) (nm_r (ls_and hp hs hn) ⟨pk_in s 8 hs, nm_r (e' := nI 0) ?_ ⟨pk_in s 8 hs, nm_r (e' := a3 s) ?_ ⟨pk_in s 8 hs, nm_r (e' := nI kd) ?_ ?_⟩⟩⟩)
  · rw [nI_clamp (by omega), h2]
    rfl
  · rw [nI_clamp (by omega)]
  · rw [nI_clamp (by omega), h1]
  refine pk_eq kd 0 (fun z => absurd z (by omega)) (fun _ => pk_eq kd 1 (fun z => absurd z (by omega)) (fun _ => pk_eq kd 2 (fun z => absurd z (by omega)) (fun _ => pk_eq kd 4 (fun e => ?_) (fun _ => pk_eq kd 5 (fun e => ?_) (fun _ => pk_eq kd 6 (fun e => ?_) (fun z => absurd hk (by omega)))))))
  · have en : nI 0 + nI n = nI n := by rw [nI_add, Nat.zero_add]
    refine ⟨pk_in n 128 (by omega) en, nm_r (e' := nI w) ?_ (ls_247 (by omega) hw rfl H)⟩
    rw [en, nI_clamp (show n < 2 ^ 31 by omega)]
    exact h4 e
  · obtain ⟨hn', hv⟩ := h5 e
    have en : nI 0 + nI n + 1 = nI (n + 1) := by rw [nI_add, Nat.zero_add, nI_1]
    refine pk_eq n 15 (fun z => absurd z (by omega)) (fun _ => ⟨pk_in (n + 1) 128 (by omega) en, nm_r (e' := nI w) ?_ (ls_247 (by omega) hw rfl H)⟩)
    rw [en, nI_clamp (show n + 1 < 2 ^ 31 by omega), nI_1]
    exact hv
  · refine pk_eq n 0 (fun z => ?_) (fun z => ?_)
    · exact ls_247 (by omega) hw (h60 e z) H
    · have en : nI 0 + nI n - 1 = nI (n - 1) := by
        obtain ⟨m, rfl⟩ : ∃ m, n = m + 1 := ⟨n - 1, by omega⟩
        rw [nI_add, Nat.zero_add, nI_pred]
        rfl
      refine ⟨pk_in (n - 1) 128 (by omega) en, pk_in n 97 (by omega), ?_⟩
      refine ls_247 (by omega) hw ?_ H
      rw [en, nI_clamp (show n - 1 < 2 ^ 31 by omega), nI_clamp (show n < 2 ^ 31 by omega)]
      exact h61 e (by omega)
/-- the last coefficient of a derivative has no value -/
theorem ls_compD {post : Int32 → St2 → Prop} (s : Nat) {p : Nat} (hp : p = 16 * s + 15) (hs : s < 8) (h1 : a1 s = 5) (H : post 0 (a1, a2, a3, a4, a5, a6, a7, a8, a9)) : wpX_compute post (a1, a2, a3, a4, a5, a6, a7, a8, a9) (nI p) := by
  refine nm_r (ls_shr hp hs (by decide)) (nm_r (ls_and hp hs (by decide)) ⟨pk_in s 8 hs, nm_e ⟨pk_in s 8 hs, nm_e ⟨pk_in s 8 hs, nm_r (e' := nI 5) ?_ ?_⟩⟩⟩)
  · rw [nI_clamp (by omega), h1]
    rfl
  exact pk_eq 5 0 (fun z => absurd z (by omega)) (fun _ => pk_eq 5 1 (fun z => absurd z (by omega)) (fun _ => pk_eq 5 2 (fun z => absurd z (by omega)) (fun _ => pk_eq 5 4 (fun z => absurd z (by omega)) (fun _ => br_t rfl (br_t rfl H)))))
end
end
section
/-! force: a step of its loop each, then the four ways it is taken -/
section
variable {a1 a2 a3 a4 a5 a6 a7 a8 a9 b5 : Nat → Int32}
theorem ls_fold {post : Int32 → St2 → Prop} {p : Nat} (hp : p < 128) (h4 : ¬ a4 p = 0) (Ht : a4 p = 2 → post 1 (a1, a2, a3, a4, a5, a6, a7, a8, a9)) (Hf : ¬ a4 p = 2 → post 0 (a1, a2, a3, a4, a5, a6, a7, a8, a9)) : wpX_force post (a1, a2, a3, a4, a5, a6, a7, a8, a9) (nI p) := by
  refine ⟨pk_in p 128 hp, ?_⟩
  rw [nI_clamp (show p < 2 ^ 31 by omega)]
  exact br_f h4 ⟨pk_in p 128 hp, Ht, Hf⟩
theorem ls_fst {post : Int32 → St2 → Prop} {p : Nat} (hp : p < 128) (h4 : a4 p = 0) (H : ∃ n, wX_force_35 post (nI p) n (nI 0) (nI 0) a1 a2 a3 (upd a4 p 1) a5 (upd a6 0 (nI p)) (upd a7 0 0) a8 a9) : wpX_force post (a1, a2, a3, a4, a5, a6, a7, a8, a9) (nI p) := by
  refine ⟨pk_in p 128 hp, br_t ?_ ⟨pk_in 0 128 (by decide), nm_r (e' := upd a6 0 (nI p)) rfl ⟨pk_in 0 128 (by decide), nm_r (e' := upd a7 0 0) rfl ⟨pk_in p 128 hp, nm_r (e' := upd a4 p 1) ?_ H⟩⟩⟩⟩
  · rw [nI_clamp (show p < 2 ^ 31 by omega)]
    exact h4
  · rw [nI_clamp (show p < 2 ^ 31 by omega)]
theorem ls_fx {post : Int32 → St2 → Prop} {n p st : Nat} {x2 : Int32} (hp : p < 128) (hst : st < 20000) (h2 : x2 < 0) (Ht : a4 p = 2 → post 1 (a1, a2, a3, a4, a5, a6, a7, a8, a9)) (Hf : ¬ a4 p = 2 → post 0 (a1, a2, a3, a4, a5, a6, a7, a8, a9)) : wX_force_35 post (nI p) (n + 1) x2 (nI st) a1 a2 a3 a4 a5 a6 a7 a8 a9 := by
  refine br_f (nI_ge hst (by decide)) (br_t h2 ⟨pk_in p 128 hp, ?_⟩)
  rw [nI_clamp (show p < 2 ^ 31 by omega)]
  exact ⟨Ht, Hf⟩
/-- what is wanted has been found: the next turn -/
theorem ls_fs {post : Int32 → St2 → Prop} {x1 : Int32} {n : Nat} (d st p i w : Nat) (hd : d < 128) (hst : st < 20000) (hw : w < 128) (h6 : a6 d = nI p) (h7 : a7 d = nI i)
    (hN : ∀ ψ : Int32 → Prop, ψ (nI w) → wpX_need ψ (a1, a2, a3, a4, a5, a6, a7, a8, a9) (nI p) (nI i)) (h4 : a4 w = 2)
    (H : wX_force_35 post x1 n (nI d) (nI (st + 1)) a1 a2 a3 a4 a5 a6 (upd a7 d (nI (i + 1))) a8 a9) : wX_force_35 post x1 (n + 1) (nI d) (nI st) a1 a2 a3 a4 a5 a6 a7 a8 a9 := by
  refine br_f (nI_ge hst (by decide)) (br_f (nI_pos (by omega)) ⟨pk_in d 128 hd, nm_r (e' := nI p) ?_ ⟨pk_in d 128 hd, ?_⟩⟩)
  · rw [nI_clamp (show d < 2 ^ 31 by omega), h6]
  rw [nI_clamp (show d < 2 ^ 31 by omega), h7]
  refine hN _ (br_f (ls_neg1 (by omega)) ⟨pk_in w 128 hw, ?_⟩)
  rw [nI_clamp (show w < 2 ^ 31 by omega)]
  refine br_t h4 ⟨pk_in d 128 hd, pk_in d 128 hd, nm_r (e' := upd a7 d (nI (i + 1))) ?_ (nm_r (nI_1 st) H)⟩
  rw [nI_1]
/-- what is wanted hasn't been asked for: it is entered -/
theorem ls_fe {post : Int32 → St2 → Prop} {x1 : Int32} {n : Nat} (d st p i w : Nat) (hd : d + 1 < 128) (hst : st < 20000) (hw : w < 128) (h6 : a6 d = nI p) (h7 : a7 d = nI i)
    (hN : ∀ ψ : Int32 → Prop, ψ (nI w) → wpX_need ψ (a1, a2, a3, a4, a5, a6, a7, a8, a9) (nI p) (nI i)) (h4 : a4 w = 0)
    (H : wX_force_35 post x1 n (nI (d + 1)) (nI (st + 1)) a1 a2 a3 (upd a4 w 1) a5 (upd a6 (d + 1) (nI w)) (upd a7 (d + 1) 0) a8 a9) : wX_force_35 post x1 (n + 1) (nI d) (nI st) a1 a2 a3 a4 a5 a6 a7 a8 a9 := by
  refine br_f (nI_ge hst (by decide)) (br_f (nI_pos (by omega)) ⟨pk_in d 128 (by omega), nm_r (e' := nI p) ?_ ⟨pk_in d 128 (by omega), ?_⟩⟩)
  · rw [nI_clamp (show d < 2 ^ 31 by omega), h6]
  rw [nI_clamp (show d < 2 ^ 31 by omega), h7]
  refine hN _ (br_f (ls_neg1 (by omega)) ⟨pk_in w 128 hw, ?_⟩)
  rw [nI_clamp (show w < 2 ^ 31 by omega)]
  refine br_f (by rw [h4]; decide) ⟨pk_in w 128 hw, br_t h4 (nm_r (nI_1 d) ⟨pk_in (d + 1) 128 hd, nm_r (e' := upd a6 (d + 1) (nI w)) ?_ ⟨pk_in (d + 1) 128 hd, nm_r (e' := upd a7 (d + 1) 0) ?_ ⟨pk_in w 128 hw, nm_r (e' := upd a4 w 1) ?_ (nm_r (nI_1 st) H)⟩⟩⟩)⟩
  · rw [nI_clamp (show d + 1 < 2 ^ 31 by omega)]
  · rw [nI_clamp (show d + 1 < 2 ^ 31 by omega)]
  · rw [nI_clamp (show w < 2 ^ 31 by omega)]
/-- nothing more is wanted: the value is worked out -/
theorem ls_fc {post : Int32 → St2 → Prop} {x1 : Int32} {n : Nat} (d st p i : Nat) (x2 : Int32) (hd : d < 128) (hst : st < 20000) (hp : p < 128) (h6 : a6 d = nI p) (h7 : a7 d = nI i)
    (hN : ∀ ψ : Int32 → Prop, ψ (-1) → wpX_need ψ (a1, a2, a3, a4, a5, a6, a7, a8, a9) (nI p) (nI i)) (hC : ∀ ψ : Int32 → St2 → Prop, ψ 1 (a1, a2, a3, a4, b5, a6, a7, a8, a9) → wpX_compute ψ (a1, a2, a3, a4, a5, a6, a7, a8, a9) (nI p)) (hx : nI d + (-1) = x2)
    (H : wX_force_35 post x1 n x2 (nI (st + 1)) a1 a2 a3 (upd a4 p 2) b5 a6 a7 a8 a9) : wX_force_35 post x1 (n + 1) (nI d) (nI st) a1 a2 a3 a4 a5 a6 a7 a8 a9 := by
  refine br_f (nI_ge hst (by decide)) (br_f (nI_pos (by omega)) ⟨pk_in d 128 (by omega), nm_r (e' := nI p) ?_ ⟨pk_in d 128 (by omega), ?_⟩⟩)
  · rw [nI_clamp (show d < 2 ^ 31 by omega), h6]
  rw [nI_clamp (show d < 2 ^ 31 by omega), h7]
  refine hN _ (br_t rfl (hC _ (br_f (by decide) ⟨pk_in p 128 hp, nm_r (e' := upd a4 p 2) ?_ (nm_r hx (nm_r (nI_1 st) H))⟩)))
  rw [nI_clamp (show p < 2 ^ 31 by omega)]
/-- nothing more is wanted, and there is no value -/
theorem ls_fd {post : Int32 → St2 → Prop} {x1 : Int32} {n : Nat} (d st p i : Nat) (x2 : Int32) (hd : d < 128) (hst : st < 20000) (hp : p < 128) (h6 : a6 d = nI p) (h7 : a7 d = nI i)
    (hN : ∀ ψ : Int32 → Prop, ψ (-1) → wpX_need ψ (a1, a2, a3, a4, a5, a6, a7, a8, a9) (nI p) (nI i)) (hC : ∀ ψ : Int32 → St2 → Prop, ψ 0 (a1, a2, a3, a4, a5, a6, a7, a8, a9) → wpX_compute ψ (a1, a2, a3, a4, a5, a6, a7, a8, a9) (nI p)) (hx : nI d + (-1) = x2)
    (H : wX_force_35 post x1 n x2 (nI (st + 1)) a1 a2 a3 (upd a4 p 3) a5 a6 a7 a8 a9) : wX_force_35 post x1 (n + 1) (nI d) (nI st) a1 a2 a3 a4 a5 a6 a7 a8 a9 := by
  refine br_f (nI_ge hst (by decide)) (br_f (nI_pos (by omega)) ⟨pk_in d 128 (by omega), nm_r (e' := nI p) ?_ ⟨pk_in d 128 (by omega), ?_⟩⟩)
  · rw [nI_clamp (show d < 2 ^ 31 by omega), h6]
  rw [nI_clamp (show d < 2 ^ 31 by omega), h7]
  refine hN _ (br_t rfl (hC _ (br_t rfl ⟨pk_in p 128 hp, nm_r (e' := upd a4 p 3) ?_ (nm_r hx (nm_r (nI_1 st) H))⟩)))
  rw [nI_clamp (show p < 2 ^ 31 by omega)]
/-- what the three definitions leave: kinds, parts, inverses -/
def ls_K (r t : Nat) (a1 a2 a3 a9 : Nat → Int32) : Prop :=
  r < 97 ∧ t < 97 ∧ (a1 0 = 6 ∧ a1 1 = 4 ∧ a1 2 = 5) ∧ (a2 0 = 0 ∧ a2 1 = 0 ∧ a2 2 = 0) ∧ a3 0 = nI r ∧ a3 1 = nI t ∧ ∀ n, 1 ≤ n → n ≤ 15 → a9 n = nI (ls_iv n)
/-- the first coefficient of series 0 -/
theorem ls_f0 {post : Int32 → St2 → Prop} {r t : Nat} (hK : ls_K r t a1 a2 a3 a9) (h4 : a4 0 = 0)
    (H : ∀ b4 b5 b6 b7 : Nat → Int32, b4 0 = 2 → (∀ j, j ≠ 0 → b4 j = a4 j) → b5 0 = nI r → (∀ j, j ≠ 0 → b5 j = a5 j) → post 1 (a1, a2, a3, b4, b5, b6, b7, a8, a9)) : wpX_force post (a1, a2, a3, a4, a5, a6, a7, a8, a9) (nI 0) := by
  obtain ⟨hr, _, ⟨k1, _, _⟩, ⟨k2, _, _⟩, k3, _, _⟩ := hK
  refine ls_fst (by decide) h4 ⟨2, ls_fc (b5 := upd a5 0 (nI (r % 97))) 0 0 0 0 (-1) (by decide) (by decide) (by decide) pk_us pk_us (fun ψ h => ls_need 0 0 6 rfl (by decide) (by decide) (by decide) (by decide) k1 k2 h) (fun ψ h => ls_comp 0 0 6 r rfl (by decide) (by decide) (by decide) k1 k2 (by omega) (fun z => absurd z (by decide)) (fun z => absurd z (by decide)) (fun _ _ => k3) (fun _ z => absurd z (by decide)) h) (by decide) ?_⟩
  refine ls_fx (by decide) (by decide) (by decide) (fun _ => H _ _ _ _ pk_us (fun j hj => ?_) ?_ (fun j hj => pk_un hj)) (fun z => absurd pk_us z)
  · rw [pk_un hj, pk_un hj]
  · rw [pk_us, Nat.mod_eq_of_lt hr]
/-- a coefficient of the derivative, and with it the next one of series 0 -/
theorem ls_f2 {post : Int32 → St2 → Prop} {r t k : Nat} (hK : ls_K r t a1 a2 a3 a9) (hk : k < 15) (h0 : a4 k = 2) (h1 : a4 (k + 1) = 0) (h2 : a4 (32 + k) = 0) (h5 : a5 k = nI (ls_v r k))
    (H : ∀ b4 b5 b6 b7 : Nat → Int32, (∀ j, b4 j = if j = k + 1 ∨ j = 32 + k then 2 else a4 j) → b5 (k + 1) = nI (ls_v r (k + 1)) → b5 (32 + k) = nI (ls_v r k) → (∀ j, j ≠ k + 1 → j ≠ 32 + k → b5 j = a5 j) → post 1 (a1, a2, a3, b4, b5, b6, b7, a8, a9)) :
    wpX_force post (a1, a2, a3, a4, a5, a6, a7, a8, a9) (nI (32 + k)) := by
  obtain ⟨hr, _, ⟨k1, _, k1'⟩, ⟨k2, _, k2'⟩, _, _, k9⟩ := hK
  have hv : ls_v r k < 97 := ls_v_lt hr k
  have hv1 : ls_v r (k + 1) < 97 := ls_v_lt hr (k + 1)
  have m1 : ls_v r k * ls_iv (k + 1) < 10000 := ls_mlt hv (ls_iv_lt _)
  have m2 : (k + 1) * ls_v r (k + 1) < 10000 := ls_mlt (by omega) hv1
  have d2 : (k + 1) * ls_v r (k + 1) % 97 = ls_v r k := ls_der k hk _ hv
  refine ls_fst (by omega) h2 ⟨6, ?_⟩
  refine ls_fe 0 0 (32 + k) 0 (k + 1) (by decide) (by decide) (by omega) pk_us pk_us (fun ψ h => ls_need 2 k 5 (by omega) (by decide) (by omega) (by decide) (by decide) k1' k2' ?_) (by rw [pk_un (by omega)]; exact h1) ?_
  · rw [ls_nd, if_neg (by decide), if_pos rfl, if_neg (show ¬ 15 ≤ k by omega)]
    exact h
  refine ls_fs 1 1 (k + 1) 0 k (by decide) (by decide) (by omega) pk_us pk_us (fun ψ h => ls_need 0 (k + 1) 6 (by omega) (by decide) (by omega) (by decide) (by decide) k1 k2 ?_) (by rw [pk_un (by omega), pk_un (by omega)]; exact h0) ?_
  · rw [ls_nd, if_neg (by decide), if_neg (by decide), if_pos rfl, if_neg (show ¬ k + 1 ≤ 0 by omega)]
    exact h
  refine ls_fc (b5 := upd a5 (k + 1) (nI (ls_v r (k + 1)))) 1 2 (k + 1) 1 (nI 0) (by decide) (by decide) (by omega) pk_us pk_us (fun ψ h => ls_need 0 (k + 1) 6 (by omega) (by decide) (by omega) (by decide) (by decide) k1 k2 ?_) (fun ψ h => ls_comp 0 (k + 1) 6 (ls_v r k * ls_iv (k + 1)) (by omega) (by decide) (by omega) (by decide) k1 k2 (by omega) (fun z => absurd z (by decide)) (fun z => absurd z (by decide)) (fun _ z => absurd z (by omega)) (fun _ _ => ?_) h) (by decide) ?_
  · rw [ls_nd, if_pos (by decide)]
    exact h
  · show a5 k * a9 (k + 1) = nI (ls_v r k * ls_iv (k + 1))
    rw [h5, k9 (k + 1) (by omega) (by omega), pk_mul]
  refine ls_fs 0 3 (32 + k) 0 (k + 1) (by decide) (by decide) (by omega) (by rw [pk_un (by decide)]; exact pk_us) (by rw [pk_un (by decide), pk_un (by decide)]; exact pk_us) (fun ψ h => ls_need 2 k 5 (by omega) (by decide) (by omega) (by decide) (by decide) k1' k2' ?_) pk_us ?_
  · rw [ls_nd, if_neg (by decide), if_pos rfl, if_neg (show ¬ 15 ≤ k by omega)]
    exact h
  refine ls_fc (b5 := upd (upd a5 (k + 1) (nI (ls_v r (k + 1)))) (32 + k) (nI (ls_v r k))) 0 4 (32 + k) 1 (-1) (by decide) (by decide) (by omega) (by rw [pk_un (by decide)]; exact pk_us) pk_us (fun ψ h => ls_need 2 k 5 (by omega) (by decide) (by omega) (by decide) (by decide) k1' k2' ?_) (fun ψ h => ls_comp 2 k 5 ((k + 1) * ls_v r (k + 1)) (by omega) (by decide) (by omega) (by decide) k1' k2' (by omega) (fun z => absurd z (by decide)) (fun _ => ⟨hk, ?_⟩) (fun z => absurd z (by decide)) (fun z => absurd z (by decide)) ?_) (by decide) ?_
  · rw [ls_nd, if_pos (by decide)]
    exact h
  · rw [pk_us, pk_mul]
  · rw [d2]
    exact h
  refine ls_fx (by omega) (by decide) (by decide) (fun _ => H _ _ _ _ (fun j => ?_) ?_ pk_us (fun j g1 g2 => ?_)) (fun z => absurd pk_us z)
  · by_cases e1 : j = 32 + k
    · rw [e1, pk_us, if_pos (Or.inr rfl)]
    · rw [pk_un e1]
      by_cases e2 : j = k + 1
      · rw [e2, pk_us, if_pos (Or.inl rfl)]
      · rw [pk_un e2, pk_un e2, pk_un e1, if_neg (by omega)]
  · rw [pk_un (by omega), pk_us]
  · rw [pk_un g2, pk_un g1]
/-- the derivative's last coefficient -/
theorem ls_f3 {post : Int32 → St2 → Prop} {r t : Nat} (hK : ls_K r t a1 a2 a3 a9) (h4 : a4 47 = 0)
    (H : ∀ b4 b6 b7 : Nat → Int32, b4 47 = 3 → (∀ j, j ≠ 47 → b4 j = a4 j) → post 0 (a1, a2, a3, b4, a5, b6, b7, a8, a9)) : wpX_force post (a1, a2, a3, a4, a5, a6, a7, a8, a9) (nI 47) := by
  obtain ⟨hr, _, ⟨_, _, k1⟩, ⟨_, _, k2⟩, _, _, _⟩ := hK
  refine ls_fst (by decide) h4 ⟨2, ls_fd 0 0 47 0 (-1) (by decide) (by decide) (by decide) pk_us pk_us (fun ψ h => ls_need 2 15 5 rfl (by decide) (by decide) (by decide) (by decide) k1 k2 h) (fun ψ h => ls_compD 2 rfl (by decide) k1 h) (by decide) ?_⟩
  refine ls_fx (by decide) (by decide) (by decide) (fun z => absurd z ?_) (fun _ => H _ _ _ pk_us (fun j hj => ?_))
  · rw [pk_us]
    decide
  · rw [pk_un hj, pk_un hj]
/-- a coefficient of the scaled series -/
theorem ls_f1 {post : Int32 → St2 → Prop} {r t k v : Nat} (hK : ls_K r t a1 a2 a3 a9) (hk : k < 16) (h0 : a4 k = 2) (h1 : a4 (16 + k) = 0) (hv : v < 97) (h5 : a5 k = nI v)
    (H : ∀ b4 b5 b6 b7 : Nat → Int32, b4 (16 + k) = 2 → (∀ j, j ≠ 16 + k → b4 j = a4 j) → b5 (16 + k) = nI (t * v % 97) → (∀ j, j ≠ 16 + k → b5 j = a5 j) → post 1 (a1, a2, a3, b4, b5, b6, b7, a8, a9)) :
    wpX_force post (a1, a2, a3, a4, a5, a6, a7, a8, a9) (nI (16 + k)) := by
  obtain ⟨hr, ht, ⟨_, k1, _⟩, ⟨_, k2, _⟩, _, k3, _⟩ := hK
  have m1 : t * v < 10000 := ls_mlt ht hv
  refine ls_fst (by omega) h1 ⟨3, ?_⟩
  refine ls_fs 0 0 (16 + k) 0 k (by decide) (by decide) (by omega) pk_us pk_us (fun ψ h => ls_need 1 k 4 (by omega) (by decide) (by omega) (by decide) (by decide) k1 k2 ?_) (by rw [pk_un (by omega)]; exact h0) ?_
  · rw [ls_nd, if_neg (by decide), if_neg (by decide), if_neg (by decide)]
    exact h
  refine ls_fc (b5 := upd a5 (16 + k) (nI (t * v % 97))) 0 1 (16 + k) 1 (-1) (by decide) (by decide) (by omega) pk_us pk_us (fun ψ h => ls_need 1 k 4 (by omega) (by decide) (by omega) (by decide) (by decide) k1 k2 ?_) (fun ψ h => ls_comp 1 k 4 (t * v) (by omega) (by decide) (by omega) (by decide) k1 k2 (by omega) (fun _ => ?_) (fun z => absurd z (by decide)) (fun z => absurd z (by decide)) (fun z => absurd z (by decide)) h) (by decide) ?_
  · rw [ls_nd, if_pos (by decide)]
    exact h
  · rw [k3, h5, pk_mul]
  refine ls_fx (by omega) (by decide) (by decide) (fun _ => H _ _ _ _ pk_us (fun j hj => ?_) pk_us (fun j hj => pk_un hj)) (fun z => absurd pk_us z)
  rw [pk_un hj, pk_un hj]
end
end
section
/-! the methods: making, define, agreeing, known, coefficient, order, evaluate -/
section
variable {a1 a2 a3 a4 a5 a6 a7 a8 a9 : Nat → Int32}
theorem ls_init {post : St2 → Prop} {mc ms : Nat} (hmc : 9 ≤ mc) (hms : 649 ≤ ms)
    (H : ∀ b9 : Nat → Int32, (∀ n, 1 ≤ n → n < 97 → b9 n = nI (ls_iv n)) → post (fun _ => 0, fun _ => 0, fun _ => 0, fun _ => 0, fun _ => 0, fun _ => 0, fun _ => 0, fun _ => 0, b9)) : wpX_init post mc ms () := by
  refine ⟨by omega, by omega, by omega, by omega, by omega, by omega, by omega, by omega, by omega, by omega, by omega, by omega, by omega, by omega, by omega, by omega, by omega, by omega, nm_e ?_⟩
  refine pk_loop (fun n i s => wX_init_89 post mc ms 9 649 n (nI i) (fun _ => 0) (fun _ => 0) (fun _ => 0) (fun _ => 0) (fun _ => 0) (fun _ => 0) (fun _ => 0) (fun _ => 0) s) (fun i s => 2 ≤ i ∧ ∀ n, 1 ≤ n → n < i → s n = nI (ls_iv n)) 97 2 (upd (fun _ => 0) 1 1) (by decide) ⟨by decide, fun n h1 h2 => ?_⟩ (fun n s h => pk_le 97 97 (fun _ => H s h.2) (fun z => absurd z (by omega))) ?_
  · obtain rfl : n = 1 := by omega
    rw [pk_us, ls_iv1]
    rfl
  · intro n i s hi h hw
    obtain ⟨h2, hs⟩ := h
    obtain ⟨q1, q2⟩ := ls_iv_step i hi h2
    have e1 : (97 : Int32) - 97 / nI i * nI i = nI (97 % i) := pk_rem (a := 97) (by decide) (by omega) (by omega)
    have e2 : (97 : Int32) - 97 / nI i = nI (97 - 97 / i) := by
      show nI 97 - nI 97 / nI i = nI (97 - 97 / i)
      rw [pk_div (by decide) (by omega) (by omega), pk_sub (Nat.div_le_self 97 i)]
    have lt : 97 % i < i := Nat.mod_lt _ (by omega)
    have hne : ¬ nI i = 0 := nI_ne0 (by omega) (by omega)
    have mm : (97 - 97 / i) * ls_iv (97 % i) < 10000 := Nat.lt_of_le_of_lt (Nat.mul_le_mul (Nat.sub_le 97 (97 / i)) (show ls_iv (97 % i) ≤ 97 from Nat.le_of_lt (ls_iv_lt _))) (by decide)
    refine pk_le 97 i (fun z => absurd z (by omega)) (fun _ => ⟨hne, hne, pk_in (97 % i) 97 (by omega) e1, by decide, pk_in i 97 hi, nm_r (e' := upd s i (nI (ls_iv i))) ?_ (nm_r (nI_1 i) (hw _ ⟨by omega, fun m g1 g2 => ?_⟩))⟩)
    · rw [e1, e2, nI_clamp (show i < 2 ^ 31 by omega), nI_clamp (show 97 % i < 2 ^ 31 by omega), hs _ q1 lt, pk_mul, ls_rem (by omega), q2]
    · by_cases e : m = i
      · rw [e, pk_us]
      · rw [pk_un e]
        exact hs m g1 (by omega)
theorem ls_def {post : Int32 → St2 → Prop} {b : Int32} (s kd q : Nat) (hs : s < 8) (hk : kd = 4 ∨ kd = 5 ∨ kd = 6) (hr : ∀ ψ : Int32 → Prop, ψ (nI q) → wpX_reduced ψ () b)
    (H : ∀ b4 : Nat → Int32, (∀ j, j < 128 → b4 j = 0) → post (a1 s) (upd a1 s (nI kd), upd a2 s 0, upd a3 s (nI q), b4, a5, a6, a7, a8, a9)) : wpX_define post (a1, a2, a3, a4, a5, a6, a7, a8, a9) (nI s) (nI kd) 0 b := by
  unfold wpX_define
  refine ls_isS s (by omega) ?_
  refine br_f (by decide) (pk_lt kd 0 (fun z => absurd z (by omega)) (fun _ => pk_le kd 9 (fun _ => pk_le kd 1 (fun z => absurd z (by omega)) (fun _ => ?_)) (fun z => absurd z (by omega))))
  refine ls_isS 0 (by decide) ?_
  refine br_f (by decide) (pk_eq kd 2 (fun z => absurd z (by omega)) (fun _ => pk_eq kd 3 (fun z => absurd z (by omega)) (fun _ => pk_eq kd 9 (fun z => absurd z (by omega)) (fun _ => br_t rfl ?_))))
  refine ⟨pk_in s 8 hs, nm_r (e' := a1 s) ?_ ⟨pk_in s 8 hs, nm_r (e' := upd a1 s (nI kd)) ?_ (pk_le kd 1 (fun z => absurd z (by omega)) (fun _ => ⟨pk_in s 8 hs, nm_r (e' := upd a2 s 0) ?_ (br_t rfl (hr _ ⟨pk_in s 8 hs, nm_r (e' := upd a3 s (nI q)) ?_ ?_⟩))⟩))⟩⟩
  · rw [nI_clamp (show s < 2 ^ 31 by omega)]
  · rw [nI_clamp (show s < 2 ^ 31 by omega)]
  · rw [nI_clamp (show s < 2 ^ 31 by omega)]
  · rw [nI_clamp (show s < 2 ^ 31 by omega)]
  refine pk_loop (fun n i w => wX_define_131 post (a1 s) n (nI i) (upd a1 s (nI kd)) (upd a2 s 0) (upd a3 s (nI q)) w a5 a6 a7 a8 a9) (fun i w => ∀ j, j < i → w j = 0) 128 0 a4 (by decide) (fun j hj => absurd hj (by omega)) (fun n w h => pk_le 128 128 (fun _ => H w h) (fun z => absurd z (by omega))) ?_
  intro n i w hi h hw
  refine pk_le 128 i (fun z => absurd z (by omega)) (fun _ => ⟨pk_in i 128 hi, nm_r (e' := upd w i 0) ?_ (nm_r (nI_1 i) (hw _ (fun j hj => ?_)))⟩)
  · rw [nI_clamp (show i < 2 ^ 31 by omega)]
  · by_cases e : j = i
    · rw [e, pk_us]
    · rw [pk_un e]
      exact h j (by omega)
/-- agreeing, at the loop's head at i: series 0 is found up to i (at 0 nothing is), the derivative below i -/
def ls_A (r i : Nat) (a4 a5 : Nat → Int32) : Prop :=
  (∀ j, 0 < i → j ≤ i → a4 j = 2 ∧ a5 j = nI (ls_v r j)) ∧ (∀ j, j < 16 → (i = 0 ∨ i < j) → a4 j = 0) ∧ (∀ j, j < i → a4 (32 + j) = 2) ∧ (∀ j, i ≤ j → j < 16 → a4 (32 + j) = 0) ∧ a4 16 = 0 ∧ a4 17 = 0
/-- the same, with series 0 found up to i at 0 too -/
def ls_B (r i : Nat) (a4 a5 : Nat → Int32) : Prop :=
  (∀ j, j ≤ i → a4 j = 2 ∧ a5 j = nI (ls_v r j)) ∧ (∀ j, j < 16 → i < j → a4 j = 0) ∧ (∀ j, j < i → a4 (32 + j) = 2) ∧ (∀ j, i ≤ j → j < 16 → a4 (32 + j) = 0) ∧ a4 16 = 0 ∧ a4 17 = 0
/-- behind agreeing: all of series 0 found, the derivative but its last, which is dead -/
def ls_D (r : Nat) (a4 a5 : Nat → Int32) : Prop :=
  (∀ j, j < 16 → a4 j = 2 ∧ a5 j = nI (ls_v r j)) ∧ (∀ j, j < 15 → a4 (32 + j) = 2) ∧ a4 47 = 3
theorem ls_head {post : Int32 → St2 → Prop} {r t i : Nat} (hK : ls_K r t a1 a2 a3 a9) (hi : i < 16) (hA : ls_A r i a4 a5)
    (H : ∀ b4 b5 b6 b7 : Nat → Int32, ls_B r i b4 b5 → post 1 (a1, a2, a3, b4, b5, b6, b7, a8, a9)) : wpX_force post (a1, a2, a3, a4, a5, a6, a7, a8, a9) (nI i) := by
  obtain ⟨h1, h2, h3, h4, h5, h6⟩ := hA
  by_cases e : i = 0
  · subst e
    refine ls_f0 hK (h2 0 (by decide) (Or.inl rfl)) (fun b4 b5 b6 b7 g1 g2 g3 g4 => H b4 b5 b6 b7 ⟨fun j hj => ?_, fun j hj hj' => ?_, fun j hj => absurd hj (by omega), fun j hj hj' => ?_, ?_, ?_⟩)
    · obtain rfl : j = 0 := by omega
      exact ⟨g1, g3⟩
    · rw [g2 j (by omega)]
      exact h2 j hj (Or.inl rfl)
    · rw [g2 _ (by omega)]
      exact h4 j hj hj'
    · rw [g2 _ (by decide)]
      exact h5
    · rw [g2 _ (by decide)]
      exact h6
  · have f := h1 i (by omega) (Nat.le_refl i)
    refine ls_fold (by omega) (by rw [f.1]; decide) (fun _ => H _ _ _ _ ⟨fun j hj => h1 j (by omega) hj, fun j hj hj' => h2 j hj (Or.inr hj'), h3, h4, h5, h6⟩) (fun z => absurd f.1 z)
theorem ls_agr {post : Int32 → St2 → Prop} {r t : Nat} (hK : ls_K r t a1 a2 a3 a9) (h4 : ∀ j, j < 128 → a4 j = 0)
    (H : ∀ b4 b5 b6 b7 : Nat → Int32, ls_D r b4 b5 → b4 16 = 0 → b4 17 = 0 → post 15 (a1, a2, a3, b4, b5, b6, b7, a8, a9)) : wpX_agreeing post (a1, a2, a3, a4, a5, a6, a7, a8, a9) 0 2 := by
  unfold wpX_agreeing
  refine ls_isS 0 (by decide) ?_
  refine br_f (by decide) ?_
  refine ls_isS 2 (by decide) ?_
  refine br_f (by decide) ?_
  refine pk_loop (σ := (Nat → Int32) × (Nat → Int32) × (Nat → Int32) × (Nat → Int32)) (fun n i s => wX_agreeing_18 post 0 2 n (nI i) a1 a2 a3 s.1 s.2.1 s.2.2.1 s.2.2.2 a8 a9) (fun i s => ls_A r i s.1 s.2.1) 15 0 (a4, a5, a6, a7) (by decide) ?_ ?_ ?_
  · exact ⟨fun j z => absurd z (by omega), fun j hj _ => h4 j (by omega), fun j hj => absurd hj (by omega), fun j _ hj => h4 _ (by omega), h4 _ (by decide), h4 _ (by decide)⟩
  · rintro n ⟨b4, b5, b6, b7⟩ hA
    have hA' : ls_A r 15 b4 b5 := hA
    show wX_agreeing_18 post 0 2 (n + 1) (nI 15) a1 a2 a3 b4 b5 b6 b7 a8 a9
    refine pk_le 16 15 (fun z => absurd z (by omega)) (fun _ => ?_)
    rw [ls_p0, ls_p2]
    refine ls_head hK (by decide) hA' (fun c4 c5 c6 c7 hB => br_f (by decide) ?_)
    obtain ⟨g1, g2, g3, g4, g5, g6⟩ := hB
    refine ls_f3 hK (g4 15 (by decide) (by decide)) (fun d4 d6 d7 e1 e2 => br_t rfl (H _ _ _ _ ⟨fun j hj => ?_, fun j hj => ?_, e1⟩ ?_ ?_))
    · rw [e2 j (by omega)]
      exact g1 j (by omega)
    · rw [e2 _ (by omega)]
      exact g3 j hj
    · rw [e2 _ (by decide)]
      exact g5
    · rw [e2 _ (by decide)]
      exact g6
  · rintro n i ⟨b4, b5, b6, b7⟩ hi hA hw
    have hA' : ls_A r i b4 b5 := hA
    show wX_agreeing_18 post 0 2 (n + 1) (nI i) a1 a2 a3 b4 b5 b6 b7 a8 a9
    refine pk_le 16 i (fun z => absurd z (by omega)) (fun _ => ?_)
    rw [ls_p0, ls_p2]
    refine ls_head hK (by omega) hA' (fun c4 c5 c6 c7 hB => br_f (by decide) ?_)
    obtain ⟨g1, g2, g3, g4, g5, g6⟩ := hB
    refine ls_f2 hK hi (g1 i (Nat.le_refl i)).1 (g2 _ (by omega) (by omega)) (g4 i (Nat.le_refl i) (by omega)) (g1 i (Nat.le_refl i)).2 (fun d4 d5 d6 d7 e1 e2 e3 e4 => br_f (by decide) ⟨pk_in i 128 (by omega), pk_in (32 + i) 128 (by omega), br_t ?_ (nm_r (nI_1 i) (hw (d4, d5, d6, d7) ?_))⟩)
    · rw [nI_clamp (show i < 2 ^ 31 by omega), nI_clamp (show 32 + i < 2 ^ 31 by omega), e3, e4 i (by omega) (by omega)]
      exact (g1 i (Nat.le_refl i)).2
    · refine (show ls_A r (i + 1) d4 d5 from ⟨fun j _ hj => ?_, fun j hj hj' => ?_, fun j hj => ?_, fun j hj hj' => ?_, ?_, ?_⟩)
      · by_cases e : j = i + 1
        · rw [e, e1, if_pos (Or.inl rfl), e2]
          exact ⟨rfl, rfl⟩
        · rw [e1, if_neg (by omega), e4 j e (by omega)]
          exact g1 j (by omega)
      · rw [e1, if_neg (by omega)]
        exact g2 j hj (by omega)
      · by_cases e : j = i
        · rw [e, e1, if_pos (Or.inr rfl)]
        · rw [e1, if_neg (by omega)]
          exact g3 j (by omega)
      · rw [e1, if_neg (by omega)]
        exact g4 j (by omega) hj'
      · rw [e1, if_neg (by omega)]
        exact g5
      · rw [e1, if_neg (by omega)]
        exact g6
theorem ls_known {post : Int32 → St2 → Prop} {r : Nat} (hD : ls_D r a4 a5) (H : post 15 (a1, a2, a3, a4, a5, a6, a7, a8, a9)) : wpX_known post (a1, a2, a3, a4, a5, a6, a7, a8, a9) 2 := by
  obtain ⟨h1, h2, h3⟩ := hD
  unfold wpX_known
  refine ls_isS 2 (by decide) ?_
  refine br_f (by decide) ?_
  refine pk_loop (σ := Unit) (fun n i _ => wX_known_11 post 2 n (nI i) a1 a2 a3 a4 a5 a6 a7 a8 a9) (fun _ _ => True) 15 0 () (by decide) trivial ?_ ?_
  · intro n _ _
    show wX_known_11 post 2 (n + 1) (nI 15) a1 a2 a3 a4 a5 a6 a7 a8 a9
    refine pk_le 16 15 (fun z => absurd z (by omega)) (fun _ => ?_)
    rw [ls_p2]
    exact ls_fold (p := 47) (by decide) (by rw [h3]; decide) (fun z => absurd z (by rw [h3]; decide)) (fun _ => br_t rfl H)
  · intro n i _ hi _ hw
    show wX_known_11 post 2 (n + 1) (nI i) a1 a2 a3 a4 a5 a6 a7 a8 a9
    refine pk_le 16 i (fun z => absurd z (by omega)) (fun _ => ?_)
    rw [ls_p2]
    exact ls_fold (by omega) (by rw [h2 i hi]; decide) (fun _ => br_f (by decide) (nm_r (nI_1 i) (hw () trivial))) (fun z => absurd (h2 i hi) z)
theorem ls_coef {post : Int32 → St2 → Prop} {r t k v : Nat} (hK : ls_K r t a1 a2 a3 a9) (hk : k < 16) (h0 : a4 k = 2) (h1 : a4 (16 + k) = 0) (hv : v < 97) (h5 : a5 k = nI v)
    (H : ∀ b4 b5 b6 b7 : Nat → Int32, b4 (16 + k) = 2 → (∀ j, j ≠ 16 + k → b4 j = a4 j) → b5 (16 + k) = nI (t * v % 97) → (∀ j, j ≠ 16 + k → b5 j = a5 j) → post (nI (t * v % 97)) (a1, a2, a3, b4, b5, b6, b7, a8, a9)) :
    wpX_coefficient post (a1, a2, a3, a4, a5, a6, a7, a8, a9) 1 (nI k) := by
  unfold wpX_coefficient
  refine ls_isS 1 (by decide) ?_
  refine br_f (by decide) (pk_lt k 0 (fun z => absurd z (by omega)) (fun _ => pk_lt k 16 (fun _ => ?_) (fun z => absurd z (by omega))))
  rw [ls_p1]
  refine ls_f1 hK hk h0 h1 hv h5 (fun b4 b5 b6 b7 e1 e2 e3 e4 => br_f (by decide) ⟨pk_in (16 + k) 128 (by omega), ?_⟩)
  rw [nI_clamp (show 16 + k < 2 ^ 31 by omega), e3]
  exact H b4 b5 b6 b7 e1 e2 e3 e4
theorem ls_order {post : Int32 → St2 → Prop} {r : Nat} (hr : r < 97) (hD : ls_D r a4 a5) (H0 : r = 0 → post (-2) (a1, a2, a3, a4, a5, a6, a7, a8, a9)) (H1 : r ≠ 0 → post 0 (a1, a2, a3, a4, a5, a6, a7, a8, a9)) : wpX_order post (a1, a2, a3, a4, a5, a6, a7, a8, a9) 0 := by
  obtain ⟨h1, h2, h3⟩ := hD
  unfold wpX_order
  refine ls_isS 0 (by decide) ?_
  refine br_f (by decide) ?_
  by_cases e : r = 0
  · refine pk_loop (σ := Unit) (fun n i _ => wX_order_11 post 0 n (nI i) a1 a2 a3 a4 a5 a6 a7 a8 a9) (fun _ _ => True) 16 0 () (by decide) trivial (fun n _ _ => pk_le 16 16 (fun _ => H0 e) (fun z => absurd z (by omega))) ?_
    intro n i _ hi _ hw
    show wX_order_11 post 0 (n + 1) (nI i) a1 a2 a3 a4 a5 a6 a7 a8 a9
    refine pk_le 16 i (fun z => absurd z (by omega)) (fun _ => ?_)
    rw [ls_p0]
    refine ls_fold (by omega) (by rw [(h1 i hi).1]; decide) (fun _ => br_f (by decide) ⟨pk_in i 128 (by omega), br_t ?_ (nm_r (nI_1 i) (hw () trivial))⟩) (fun z => absurd (h1 i hi).1 z)
    rw [nI_clamp (show i < 2 ^ 31 by omega), (h1 i hi).2, e, ls_v0]
    rfl
  · refine ⟨1, ?_⟩
    show wX_order_11 post 0 (0 + 1) (nI 0) a1 a2 a3 a4 a5 a6 a7 a8 a9
    refine pk_le 16 0 (fun z => absurd z (by omega)) (fun _ => ?_)
    rw [ls_p0]
    refine ls_fold (by decide) (by rw [(h1 0 (by decide)).1]; decide) (fun _ => br_f (by decide) ⟨pk_in 0 128 (by decide), br_f ?_ (H1 e)⟩) (fun z => absurd (h1 0 (by decide)).1 z)
    rw [nI_clamp (show 0 < 2 ^ 31 by decide), (h1 0 (by decide)).2]
    exact nI_ne0 (show 0 < r by omega) (show r < 2 ^ 31 by omega)
theorem ls_eval {post : Int32 → St2 → Prop} {r y : Nat} {x : Int32} (hr : r < 97) (hy : y < 97) (hx : ∀ ψ : Int32 → Prop, ψ (nI y) → wpX_reduced ψ () x) (hD : ls_D r a4 a5) (H : post (nI ((r * y + r) % 97)) (a1, a2, a3, a4, a5, a6, a7, a8, a9)) : wpX_evaluate post (a1, a2, a3, a4, a5, a6, a7, a8, a9) 0 2 x := by
  obtain ⟨h1, h2, h3⟩ := hD
  have m1 : r * y < 10000 := ls_mlt hr hy
  have v0 : a5 0 = nI r := (h1 0 (by decide)).2
  have v1 : a5 1 = nI r := by rw [(h1 1 (by decide)).2, ls_v1 hr]
  unfold wpX_evaluate
  refine ls_isS 0 (by decide) ?_
  refine br_f (by decide) (pk_lt 2 0 (fun z => absurd z (by omega)) (fun _ => pk_le 2 16 (fun _ => ?_) (fun z => absurd z (by omega))))
  refine hx _ ?_
  refine nm_r (e' := nI 1) (by decide) ⟨3, ?_⟩
  refine pk_lt 1 0 (fun z => absurd z (by omega)) (fun _ => ?_)
  rw [ls_p0]
  refine ls_fold (by decide) (by rw [(h1 1 (by decide)).1]; decide) (fun _ => br_f (by decide) ⟨pk_in 1 128 (by decide), by decide, nm_r (e' := nI r) ?_ (nm_r (e' := nI 0) (by decide) ?_)⟩) (fun z => absurd (h1 1 (by decide)).1 z)
  · rw [nI_clamp (show 1 < 2 ^ 31 by decide), v1]
    show (nI 0 * nI y + nI r) - (nI 0 * nI y + nI r) / 97 * 97 = nI r
    rw [pk_mul, nI_add, Nat.zero_mul, Nat.zero_add, ls_rem (by omega), Nat.mod_eq_of_lt hr]
  refine pk_lt 0 0 (fun z => absurd z (by omega)) (fun _ => ?_)
  rw [ls_p0]
  refine ls_fold (by decide) (by rw [(h1 0 (by decide)).1]; decide) (fun _ => br_f (by decide) ⟨pk_in 0 128 (by decide), by decide, nm_r (e' := nI ((r * y + r) % 97)) ?_ (nm_r (e' := -1) (by decide) ?_)⟩) (fun z => absurd (h1 0 (by decide)).1 z)
  · rw [nI_clamp (show 0 < 2 ^ 31 by decide), v0, pk_mul, nI_add, ls_rem (by omega)]
  exact br_t (by decide) H
end
end
section
/-! needs: the walk from place 32 over 1 to 0 -/
section
variable {a1 a2 a3 a4 a5 a6 a7 a8 a9 : Nat → Int32}
/-- the inner loop from i0 on, where nothing more is needed -/
theorem ls_75 {post : Int32 → St2 → Prop} {J : Int32 → Int32 → (Nat → Int32) → (Nat → Int32) → (Nat → Int32) → (Nat → Int32) → (Nat → Int32) → (Nat → Int32) → (Nat → Int32) → (Nat → Int32) → (Nat → Int32) → Prop} {x2 x3 : Int32} (k q i0 : Nat) (hk : k < 128) (hi0 : i0 ≤ 32) (hx : ¬ -1 = x2) (h6 : a6 k = nI q)
    (hN : ∀ i, i0 ≤ i → i < 32 → ∀ ψ : Int32 → Prop, ψ (-1) → wpX_need ψ (a1, a2, a3, a4, a5, a6, a7, a8, a9) (nI q) (nI i)) (H : J x3 (nI (k + 1)) a1 a2 a3 a4 a5 a6 a7 a8 a9) : ∃ n, wX_needs_75 post J x2 (nI k) n x3 (nI i0) a1 a2 a3 a4 a5 a6 a7 a8 a9 := by
  refine pk_loop (σ := Unit) (fun n i _ => wX_needs_75 post J x2 (nI k) n x3 (nI i) a1 a2 a3 a4 a5 a6 a7 a8 a9) (fun i _ => i0 ≤ i) 32 i0 () hi0 (Nat.le_refl i0) (fun n _ _ => pk_le 32 32 (fun _ => nm_r (nI_1 k) H) (fun z => absurd z (by omega))) ?_
  intro n i _ hi h hw
  show wX_needs_75 post J x2 (nI k) (n + 1) x3 (nI i) a1 a2 a3 a4 a5 a6 a7 a8 a9
  refine pk_le 32 i (fun z => absurd z (by omega)) (fun _ => ⟨pk_in k 128 hk, ?_⟩)
  rw [nI_clamp (show k < 2 ^ 31 by omega), h6]
  exact hN i h hi _ (br_f hx (br_t rfl (nm_r (nI_1 i) (hw () (by omega)))))
/-- the inner loop at 0, where place w is needed, and hasn't been seen -/
theorem ls_hit {post : Int32 → St2 → Prop} {J : Int32 → Int32 → (Nat → Int32) → (Nat → Int32) → (Nat → Int32) → (Nat → Int32) → (Nat → Int32) → (Nat → Int32) → (Nat → Int32) → (Nat → Int32) → (Nat → Int32) → Prop} {x2 : Int32} (k q w m : Nat) (hk : k < 128) (hw : w < 128) (hm : m < 128) (h6 : a6 k = nI q) (h7 : a7 w = 0)
    (hN : ∀ ψ : Int32 → Prop, ψ (nI w) → wpX_need ψ (a1, a2, a3, a4, a5, a6, a7, a8, a9) (nI q) (nI 0)) (Hh : nI w = x2 → post 1 (a1, a2, a3, a4, a5, a6, a7, a8, a9))
    (Hg : ¬ nI w = x2 → ∃ n, wX_needs_75 post J x2 (nI k) n (nI (m + 1)) (nI 1) a1 a2 a3 a4 a5 (upd a6 m (nI w)) (upd a7 w 1) a8 a9) : ∃ n, wX_needs_75 post J x2 (nI k) n (nI m) (nI 0) a1 a2 a3 a4 a5 a6 a7 a8 a9 := by
  by_cases h : nI w = x2
  · refine ⟨1, ?_⟩
    show wX_needs_75 post J x2 (nI k) (0 + 1) (nI m) (nI 0) a1 a2 a3 a4 a5 a6 a7 a8 a9
    refine pk_le 32 0 (fun z => absurd z (by omega)) (fun _ => ⟨pk_in k 128 hk, ?_⟩)
    rw [nI_clamp (show k < 2 ^ 31 by omega), h6]
    exact hN _ (br_t h (Hh h))
  · obtain ⟨n, hn⟩ := Hg h
    refine ⟨n + 1, ?_⟩
    refine pk_le 32 0 (fun z => absurd z (by omega)) (fun _ => ⟨pk_in k 128 hk, ?_⟩)
    rw [nI_clamp (show k < 2 ^ 31 by omega), h6]
    refine hN _ (br_f h (br_f (ls_neg1 (by omega)) ⟨pk_in w 128 hw, ?_⟩))
    rw [nI_clamp (show w < 2 ^ 31 by omega)]
    refine br_t h7 (pk_le 128 m (fun z => absurd z (by omega)) (fun _ => ⟨pk_in w 128 hw, nm_e ⟨pk_in m 128 hm, nm_r (e' := upd a6 m (nI w)) ?_ (nm_r (nI_1 m) (nm_r (e' := nI 1) (by decide) hn))⟩⟩))
    rw [nI_clamp (show m < 2 ^ 31 by omega)]
theorem ls_58 {post : Int32 → St2 → Prop} {r t j : Nat} (hK : ls_K r t a1 a2 a3 a9) (hj : j < 128) (h6 : a6 0 = 32) (h7 : ∀ i, i < 128 → a7 i = 0) (H : ∀ b6 b7 : Nat → Int32, post (if j < 2 then 1 else 0) (a1, a2, a3, a4, a5, b6, b7, a8, a9)) : ∃ n, wX_needs_58 post (nI j) n 1 0 a1 a2 a3 a4 a5 a6 a7 a8 a9 := by
  obtain ⟨_, _, ⟨k1, _, k1'⟩, ⟨k2, _, k2'⟩, _, _, _⟩ := hK
  have hx : ¬ -1 = nI j := fun z => ls_neg1 (show j < 2 ^ 31 by omega) z.symm
  refine ⟨4, pk_le 128 0 (fun z => absurd z (by omega)) (fun _ => pk_le 1 0 (fun z => absurd z (by omega)) (fun _ => ?_))⟩
  refine ls_hit 0 32 1 1 (by decide) (by decide) (by decide) h6 (h7 1 (by decide)) (fun ψ h => ls_need 2 0 5 rfl (by decide) (by decide) (by decide) (by decide) k1' k2' h) (fun e => ?_) (fun e => ?_)
  · have ej : 1 = j := (nI_eq (by decide) (by omega)).mp e
    have := H a6 a7
    rw [if_pos (show j < 2 by omega)] at this
    exact this
  refine ls_75 0 32 1 (by decide) (by decide) hx (by rw [pk_un (by decide)]; exact h6) (fun i h1 h2 ψ h => ls_need 2 0 5 rfl (by decide) (by decide) (by omega) (by decide) k1' k2' (by rw [ls_nd, if_pos (show 0 < i by omega)]; exact h)) ?_
  refine pk_le 128 1 (fun z => absurd z (by omega)) (fun _ => pk_le 2 1 (fun z => absurd z (by omega)) (fun _ => ?_))
  refine ls_hit 1 1 0 2 (by decide) (by decide) (by decide) pk_us (by rw [pk_un (by decide)]; exact h7 0 (by decide)) (fun ψ h => ls_need 0 1 6 rfl (by decide) (by decide) (by decide) (by decide) k1 k2 h) (fun e => ?_) (fun e' => ?_)
  · have ej : 0 = j := (nI_eq (by decide) (by omega)).mp e
    have := H (upd a6 1 (nI 1)) (upd a7 1 1)
    rw [if_pos (show j < 2 by omega)] at this
    exact this
  refine ls_75 1 1 1 (by decide) (by decide) hx (by rw [pk_un (by decide)]; exact pk_us) (fun i h1 h2 ψ h => ls_need 0 1 6 rfl (by decide) (by decide) (by omega) (by decide) k1 k2 (by rw [ls_nd, if_pos (show 0 < i by omega)]; exact h)) ?_
  refine pk_le 128 2 (fun z => absurd z (by omega)) (fun _ => pk_le 3 2 (fun z => absurd z (by omega)) (fun _ => ?_))
  refine ls_75 2 0 0 (by decide) (by decide) hx pk_us (fun i h1 h2 ψ h => ls_need 0 0 6 rfl (by decide) (by decide) (by omega) (by decide) k1 k2 ?_) ?_
  · by_cases z : 0 < i
    · rw [ls_nd, if_pos z]
      exact h
    · rw [ls_nd, if_neg z]
      exact h
  refine pk_le 128 3 (fun z => absurd z (by omega)) (fun _ => pk_le 3 3 (fun _ => ?_) (fun z => absurd z (by omega)))
  have nj : ¬ j < 2 := by
    intro z
    rcases (show j = 0 ∨ j = 1 by omega) with z' | z'
    · exact e' (by rw [z'])
    · exact e (by rw [z'])
  have := H (upd (upd a6 1 (nI 1)) 2 (nI 0)) (upd (upd a7 1 1) 0 1)
  rw [if_neg nj] at this
  exact this
theorem ls_needs {post : Int32 → St2 → Prop} {r t : Nat} {n : Int32} (hK : ls_K r t a1 a2 a3 a9) (H1 : (n < 0 ∨ ¬ n < 128) → post (-1) (a1, a2, a3, a4, a5, a6, a7, a8, a9)) (H2 : ∀ j, j < 128 → n = nI j → ∀ b6 b7 : Nat → Int32, post (if j < 2 then 1 else 0) (a1, a2, a3, a4, a5, b6, b7, a8, a9)) : wpX_needs post (a1, a2, a3, a4, a5, a6, a7, a8, a9) 32 n := by
  refine pk_lt 32 0 (fun z => absurd z (by omega)) (fun _ => pk_le 128 32 (fun z => absurd z (by omega)) (fun _ => br_c (fun h => H1 (Or.inl h)) (fun h => br_c (fun g => ?_) (fun g => H1 (Or.inr g)))))
  obtain ⟨j, hj, rfl⟩ := nI_of h
  have hj' : j < 128 := (nI_ltI (b := 128) hj (by decide)).mp g
  refine pk_loop (fun m i s => wX_needs_26 post 32 (nI j) m (nI i) a1 a2 a3 a4 a5 a6 s a8 a9) (fun i s => ∀ k, k < i → s k = 0) 128 0 a7 (by decide) (fun k hk => absurd hk (by omega)) (fun m s hs => pk_le 128 128 (fun _ => nm_e (ls_58 hK hj' pk_us hs (fun b6 b7 => H2 j hj' rfl b6 b7))) (fun z => absurd z (by omega))) ?_
  intro m i s hi hs hw
  refine pk_le 128 i (fun z => absurd z (by omega)) (fun _ => ⟨pk_in i 128 hi, nm_r (e' := upd s i 0) ?_ (nm_r (nI_1 i) (hw _ (fun k hk => ?_)))⟩)
  · rw [nI_clamp (show i < 2 ^ 31 by omega)]
  · by_cases e : k = i
    · rw [e, pk_us]
    · rw [pk_un e]
      exact hs k (by omega)
end
end
section
/-! the law -/
section
variable {a1 a2 a3 a4 a5 a6 a7 a8 a9 : Nat → Int32}
theorem ls_188 {post : Int32 → St0 → Prop} {mc ms kc ks r t : Nat} {n z0 : Int32} (hK : ls_K r t a1 a2 a3 a9) (hz : ∀ j, j < 2 → n = nI j → ¬ z0 = 0) (H : post 1 ()) : wL_lawOf_188 post mc ms n z0 kc ks a1 a2 a3 a4 a5 a6 a7 a8 a9 := by
  refine ls_needs hK (fun h => ?_) (fun j hj e b6 b7 => ?_)
  · have g : wL_lawOf_208 post mc ms (-1) kc ks := br_t rfl H
    refine br_c (fun _ => g) (fun hn => ?_)
    obtain ⟨j, hj, rfl⟩ := nI_of hn
    have nle : ¬ nI j ≤ 127 := by
      intro hle
      have h1 : j ≤ 127 := (nI_leI (b := 127) hj (by decide)).mp hle
      rcases h with h | h
      · exact hn h
      · exact h (nI_lt (b := 128) (by omega) (by decide))
    exact br_f nle g
  · subst e
    refine pk_lt j 0 (fun z => absurd z (by omega)) (fun _ => pk_le j 127 (fun _ => br_c (fun g => ?_) (fun g => pk_le 2 j (fun h => ?_) (fun h => ?_))) (fun z => absurd z (by omega)))
    · have nj : ¬ j < 2 := fun z => hz j z rfl g
      exact br_t (by rw [if_neg nj]) H
    · exact br_t (by rw [if_neg (by omega)]) H
    · exact br_t (by rw [if_pos h]) H
theorem ls_142 {post : Int32 → St0 → Prop} {mc ms kc ks r t y : Nat} {x n z0 z1 : Int32} (hK : ls_K r t a1 a2 a3 a9) (hD : ls_D r a4 a5) (hy : y < 97) (hL : ∀ ψ : Int32 → Prop, ψ (nI y) → wpL_reduced ψ () x) (hX : ∀ ψ : Int32 → Prop, ψ (nI y) → wpX_reduced ψ () x) (hz : z1 = z0) (H : post 1 ()) :
    wL_lawOf_142 post mc ms x n (nI r) z0 z1 kc ks a1 a2 a3 a4 a5 a6 a7 a8 a9 := by
  have hr : r < 97 := hK.1
  have m1 : r * y < 10000 := ls_mlt hr hy
  refine br_t hz (ls_eval hr hy hX hD (hL _ ⟨by decide, br_t ?_ ?_⟩))
  · rw [pk_mul, nI_add, ls_rem (by omega), Nat.add_comm]
  · refine br_c (fun h => ls_188 hK (fun j hj e => ?_) H) (fun h => br_c (fun g => ls_188 hK (fun j hj e => ?_) H) (fun g => ls_188 hK (fun j hj e => by decide) H))
    · rw [e] at h
      exact absurd h (nI_pos (by omega))
    · rw [e] at g
      exact absurd g (nI_nlt (a := 15) (by omega) (by decide))
theorem ls_lawOf {post : Int32 → St0 → Prop} (b c x n : Int32) (H : post 1 ()) : wpL_lawOf post 350 5584 () b c x n := by
  obtain ⟨r, hr, rL, rX⟩ := ls_red b
  obtain ⟨t, ht, tL, tX⟩ := ls_red c
  obtain ⟨y, hy, yL, yX⟩ := ls_red x
  refine ⟨by decide, by decide, 9, 649, by decide, by decide, ls_init (by decide) (by decide) (fun b9 h9 => ?_)⟩
  refine rL _ (tL _ (ls_def 0 6 r (by decide) (by decide) rX (fun c4 _ => br_t rfl ?_)))
  refine ls_def 1 4 t (by decide) (by decide) tX (fun d4 _ => br_t rfl ?_)
  refine ls_def 2 5 y (by decide) (by decide) yX (fun e4 h4 => br_t rfl ?_)
  have hK : ls_K r t (upd (upd (upd (fun _ => 0) 0 (nI 6)) 1 (nI 4)) 2 (nI 5)) (upd (upd (upd (fun _ => 0) 0 0) 1 0) 2 0) (upd (upd (upd (fun _ => 0) 0 (nI r)) 1 (nI t)) 2 (nI y)) b9 :=
    ⟨hr, ht, ⟨rfl, rfl, rfl⟩, ⟨rfl, rfl, rfl⟩, rfl, rfl, fun n h1 h2 => h9 n h1 (by omega)⟩
  refine ls_agr hK h4 (fun b4 b5 b6 b7 hD g1 g2 => br_t rfl (ls_known hD (br_t rfl ?_)))
  have m1 : r * t < 10000 := ls_mlt hr ht
  have eq : nI (t * r % 97) = nI r * nI t - nI r * nI t / 97 * 97 := by rw [pk_mul, ls_rem (by omega), Nat.mul_comm]
  have v0 : b5 0 = nI r := (hD.1 0 (by decide)).2
  have v1 : b5 1 = nI r := by rw [(hD.1 1 (by decide)).2, ls_v1 hr]
  refine ls_coef (k := 0) hK (by decide) (hD.1 0 (by decide)).1 g1 hr v0 (fun p4 p5 p6 p7 i1 i2 i3 i4 => ⟨by decide, br_t eq ?_⟩)
  refine ls_coef (k := 1) hK (by decide) (by rw [i2 _ (by decide)]; exact (hD.1 1 (by decide)).1) (by rw [i2 _ (by decide)]; exact g2) hr (by rw [i4 _ (by decide)]; exact v1) (fun q4 q5 q6 q7 j1 j2 j3 j4 => ⟨by decide, br_t eq ?_⟩)
  have hD' : ls_D r q4 q5 := by
    obtain ⟨f1, f2, f3⟩ := hD
    refine ⟨fun j hj => ?_, fun j hj => ?_, ?_⟩
    · rw [j2 j (by omega), i2 j (by omega), j4 j (by omega), i4 j (by omega)]
      exact f1 j hj
    · rw [j2 _ (by omega), i2 _ (by omega)]
      exact f2 j hj
    · rw [j2 _ (by decide), i2 _ (by decide)]
      exact f3
  refine ls_order hr hD' (fun e => ?_) (fun e => ?_)
  · exact br_t (by rw [e]; rfl) (ls_142 hK hD' hy yL yX rfl H)
  · exact br_f (nI_ne0 (by omega) (by omega)) (ls_142 hK hD' hy yL yX rfl H)
end
theorem ls_cell {post : Int32 → Prop} {L : Nat} {xs : Nat → Int32} (hL : L ≤ 4) (i : Nat) (hi : i < 4) (H : ∀ y, post y) : wpL_cellAt post L xs () (nI i) :=
  pk_le L i (fun _ => H _) (fun z => ⟨pk_in i L z, H _⟩)
theorem i_vc (xs : Nat → Int32) (L : Nat) (hL : L ≤ 4) : wpL_law (fun r => r = 1) L xs :=
  ls_cell hL 0 (by decide) fun b => ls_cell hL 1 (by decide) fun c => ls_cell hL 2 (by decide) fun x => ls_cell hL 3 (by decide) fun n => ⟨350, 5584, by decide, by decide, ls_lawOf b c x n rfl⟩
end
