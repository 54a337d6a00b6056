section
section
variable {tl ap mj mn dg lo hi il ih mc : Int32} {a1 a2 a3 a4 a5 a6 a7 a8 : Nat → Int32}
/-- a character that the law types -/
def sv_known (c : Int32) : Prop := (¬ c < 48 ∧ ¬ 57 < c) ∨ c = 46 ∨ c = 60 ∨ c = 62 ∨ c = 94 ∨ c = 126
theorem sv_ch : ∀ M, M < 10 → sv_known (nI (48 + M)) ∧ vp_nar .char (nI (48 + M)) = nI (48 + M) := by
  intro M hM
  refine ⟨Or.inl ⟨nI_nlt (b := 48) (by omega) (by omega), nI_nlt (a := 57) (by omega) (by omega)⟩, ?_⟩
  rw [vp_nar_char]
  have h : ∀ M, M < 10 → (nI (48 + M)).toUInt32.toUInt16.toUInt32.toInt32 = nI (48 + M) := by decide +kernel
  exact h M hM
theorem sv_ne : ∀ M, M < 10 → ¬ nI (48 + M) = 42 ∧ ¬ nI (48 + M) = 60 ∧ ¬ nI (48 + M) = 62 ∧ ¬ nI (48 + M) = 94 ∧ ¬ nI (48 + M) = 126 ∧ ¬ nI (48 + M) = 61 := by decide +kernel
theorem sv_cast : ∀ M, M < 10 → ((48 + nI M).toUInt32 % 65536).toInt32 = nI (48 + M) := by decide +kernel
theorem sv_short : ∀ n, n < 1001 → (nI n).toInt16.toInt32 = nI n := by decide +kernel
theorem sv_type80 {post : Int32 → St2 → Prop} {t : Nat} {c : Int32} (ht : t < 40) (hc : vp_nar .char c = c)
    (H : post (nI (t + 1)) (nI (t + 1), ap, mj, mn, dg, lo, hi, il, ih, mc, upd a1 t c, a2, a3, a4, a5, a6, a7, a8)) : wX_type_80 post c (nI t) ap mj mn dg lo hi il ih mc a1 a2 a3 a4 a5 a6 a7 a8 := by
  unfold wX_type_80 wX_type_85
  refine br_f (by decide) ⟨pk_in t 40 ht, nm_r (by rw [nI_clamp (by omega), hc]) (nm_r (nI_1 t) H)⟩
theorem sv_type {post : Int32 → St2 → Prop} {t : Nat} {c : Int32} (ht : t < 40) (hk : sv_known c) (hc : vp_nar .char c = c)
    (H : post (nI (t + 1)) (nI (t + 1), ap, mj, mn, dg, lo, hi, il, ih, mc, upd a1 t c, a2, a3, a4, a5, a6, a7, a8)) : wpX_type post (nI t, ap, mj, mn, dg, lo, hi, il, ih, mc, a1, a2, a3, a4, a5, a6, a7, a8) c := by
  have K : wX_type_80 post c (nI t) ap mj mn dg lo hi il ih mc a1 a2 a3 a4 a5 a6 a7 a8 := sv_type80 ht hc H
  unfold wpX_type
  refine br_t (nI_lt (b := 40) ht (by decide)) ?_
  unfold wpX_isDigit
  refine br_c (fun g => br_t rfl ?_) (fun g => br_c (fun g2 => br_t rfl ?_) (fun _ => br_f (by decide) K))
  · refine br_c (fun _ => K) (fun n32 => br_c (fun _ => K) (fun n42 => br_c (fun _ => K) (fun n46 => br_c (fun _ => K) (fun n124 => br_c (fun _ => K) (fun n60 => br_c (fun _ => K) (fun n62 => br_c (fun _ => K) (fun n61 => br_c (fun _ => K) (fun n94 => br_c (fun _ => K) (fun n126 => br_c (fun _ => K) (fun n45 => ?_))))))))))
    rcases hk with h | h | h | h | h | h
    · exact absurd g h.1
    · exact absurd h n46
    · exact absurd h n60
    · exact absurd h n62
    · exact absurd h n94
    · exact absurd h n126
  · refine br_c (fun _ => K) (fun n32 => br_c (fun _ => K) (fun n42 => br_c (fun _ => K) (fun n46 => br_c (fun _ => K) (fun n124 => br_c (fun _ => K) (fun n60 => br_c (fun _ => K) (fun n62 => br_c (fun _ => K) (fun n61 => br_c (fun _ => K) (fun n94 => br_c (fun _ => K) (fun n126 => br_c (fun _ => K) (fun n45 => ?_))))))))))
    rcases hk with h | h | h | h | h | h
    · exact absurd g2 h.2
    · exact absurd h n46
    · exact absurd h n60
    · exact absurd h n62
    · exact absurd h n94
    · exact absurd h n126
theorem sv_digit {post : Int32 → Prop} {M : Nat} (hM : M < 10) (H : post 1) : wpX_isDigit post (tl, ap, mj, mn, dg, lo, hi, il, ih, mc, a1, a2, a3, a4, a5, a6, a7, a8) (nI (48 + M)) := by
  unfold wpX_isDigit
  exact br_f (nI_nlt (b := 48) (by omega) (by omega)) (br_f (nI_nlt (a := 57) (by omega) (by omega)) H)
theorem sv_isRange {post : Int32 → Prop} {p : Int32} (h0 : ¬ p < 0) (h3 : ¬ 3 < p) (H : post 1) : wpX_isRange post (tl, ap, mj, mn, dg, lo, hi, il, ih, mc, a1, a2, a3, a4, a5, a6, a7, a8) p := by
  unfold wpX_isRange
  exact br_f h0 (br_f h3 H)
theorem sv_pass_end {post : Int32 → St2 → Prop} {t p : Nat} {c : Int32} (h : t ≤ p) (hp : p ≤ 40) (H : post 0 (nI t, nI p, mj, mn, dg, lo, hi, il, ih, mc, a1, a2, a3, a4, a5, a6, a7, a8)) : wpX_pass post (nI t, nI p, mj, mn, dg, lo, hi, il, ih, mc, a1, a2, a3, a4, a5, a6, a7, a8) c := by
  unfold wpX_pass
  exact br_t (nI_le h (by omega)) H
theorem sv_pass_no {post : Int32 → St2 → Prop} {t p : Nat} {c : Int32} (h : p < t) (ht : t ≤ 40) (hn : ¬ a1 p = c) (H : post 0 (nI t, nI p, mj, mn, dg, lo, hi, il, ih, mc, a1, a2, a3, a4, a5, a6, a7, a8)) : wpX_pass post (nI t, nI p, mj, mn, dg, lo, hi, il, ih, mc, a1, a2, a3, a4, a5, a6, a7, a8) c := by
  unfold wpX_pass
  exact br_f (nI_ge h (by omega)) ⟨pk_in p 40 (by omega), br_f (by rw [nI_clamp (by omega)]; exact hn) H⟩
theorem sv_pass_yes {post : Int32 → St2 → Prop} {t p : Nat} {c : Int32} (h : p < t) (ht : t ≤ 40) (hy : a1 p = c) (H : post 1 (nI t, nI (p + 1), mj, mn, dg, lo, hi, il, ih, mc, a1, a2, a3, a4, a5, a6, a7, a8)) : wpX_pass post (nI t, nI p, mj, mn, dg, lo, hi, il, ih, mc, a1, a2, a3, a4, a5, a6, a7, a8) c := by
  unfold wpX_pass
  exact br_f (nI_ge h (by omega)) ⟨pk_in p 40 (by omega), br_t (by rw [nI_clamp (by omega)]; exact hy) (nm_r (nI_1 p) H)⟩
theorem sv_m48 (M : Nat) : nI (48 + M) - 48 = nI M := by
  have h := pk_sub (a := 48 + M) (b := 48) (by omega)
  rw [show 48 + M - 48 = M by omega] at h
  exact h
theorem sv_100 (M : Nat) : 100 * nI M = nI (100 * M) := pk_mul 100 M
theorem sv_10 (m : Nat) : 10 * nI m = nI (10 * m) := pk_mul 10 m
theorem sv_99 (n : Nat) : nI n + 99 = nI (n + 99) := nI_add n 99
theorem sv_9 (n : Nat) : nI n + 9 = nI (n + 9) := nI_add n 9
theorem sv_readp {post : Int32 → St2 → Prop} {k M m : Nat} (hk : k ≤ 1) (hM : M < 10) (hm : m < 10) (e0 : a1 k = nI (48 + M)) (e1 : a1 (k + 1) = 46) (e2 : a1 (k + 2) = nI (48 + m))
    (H : post 1 (nI (k + 3), nI (k + 3), nI M, nI m, 2, nI (100 * M + 10 * m), nI (100 * M + 10 * m + 9), il, ih, mc, a1, a2, a3, a4, a5, a6, a7, a8)) : wpX_readPartial post (nI (k + 3), nI k, mj, mn, dg, lo, hi, il, ih, mc, a1, a2, a3, a4, a5, a6, a7, a8) := by
  unfold wpX_readPartial
  refine br_f (nI_ge (by omega) (by omega)) ⟨pk_in k 40 (by omega), ?_⟩
  rw [nI_clamp (show k < 2 ^ 31 by omega), e0]
  refine sv_digit hM (br_f (by decide) ⟨pk_in k 40 (by omega), nm_r (sv_m48 M) (nm_r (nI_1 k) (nm_r (sv_100 M) (nm_r (sv_99 _) ?_)))⟩)
  refine sv_pass_yes (p := k + 1) (by omega) (by omega) e1 (br_f (by decide) (br_f (nI_ge (by omega) (by omega)) ⟨pk_in (k + 2) 40 (by omega), ?_⟩))
  rw [show (nI (k + 1 + 1)).toNatClampNeg = k + 2 from nI_clamp (by omega), e2]
  refine sv_digit hm (br_f (by decide) ⟨pk_in (k + 2) 40 (by omega), nm_r (sv_m48 m) (nm_r (nI_1 (k + 2)) (nm_r (e' := nI (100 * M + 10 * m)) (by rw [sv_10, nI_add]) (nm_r (sv_9 _) ?_)))⟩)
  exact sv_pass_end (t := k + 3) (p := k + 3) (by omega) (by omega) (br_t rfl H)
theorem sv_tilde {post : Int32 → St2 → Prop} {k M m : Nat} (hk : k ≤ 1) (hM : M < 10) (hm : m < 10) (e0 : a1 k = nI (48 + M)) (e1 : a1 (k + 1) = 46) (e2 : a1 (k + 2) = nI (48 + m))
    (H : post 1 (nI (k + 3), nI (k + 3), nI M, nI m, 2, nI (100 * M + 10 * m), nI (100 * M + 10 * m + 9), nI (100 * M + 10 * m), nI (100 * M + 10 * m + 9), mc, a1, a2, a3, a4, a5, a6, a7, a8)) : wpX_readTilde post (nI (k + 3), nI k, mj, mn, dg, lo, hi, il, ih, mc, a1, a2, a3, a4, a5, a6, a7, a8) := by
  unfold wpX_readTilde
  exact sv_readp hk hM hm e0 e1 e2 (br_f (by decide) (br_f (by decide) (nm_r (by rw [sv_100, sv_10, nI_add, sv_9]) H)))
theorem sv_caret {post : Int32 → St2 → Prop} {k M m : Nat} (hk : k ≤ 1) (hM : M < 10) (hm : m < 10) (e0 : a1 k = nI (48 + M)) (e1 : a1 (k + 1) = 46) (e2 : a1 (k + 2) = nI (48 + m))
    (H : post 1 (nI (k + 3), nI (k + 3), nI M, nI m, 2, nI (100 * M + 10 * m), nI (100 * M + 10 * m + 9), nI (100 * M + 10 * m), nI (if M = 0 then 10 * m + 9 else 100 * M + 99), mc, a1, a2, a3, a4, a5, a6, a7, a8)) : wpX_readCaret post (nI (k + 3), nI k, mj, mn, dg, lo, hi, il, ih, mc, a1, a2, a3, a4, a5, a6, a7, a8) := by
  unfold wpX_readCaret
  refine sv_readp hk hM hm e0 e1 e2 (br_f (by decide) (pk_eq M 0 (fun z => br_f (by decide) ?_) (fun z => ?_)))
  · rw [if_pos z] at H
    have K : wX_readCaret_64 post (nI (k + 3)) (nI (k + 3)) (nI M) (nI m) 2 (nI (100 * M + 10 * m)) (nI (100 * M + 10 * m + 9)) (nI (100 * M + 10 * m)) ih mc a1 a2 a3 a4 a5 a6 a7 a8 := by
      unfold wX_readCaret_64
      exact nm_r (by rw [sv_10, sv_9]) H
    exact br_c (fun _ => br_t rfl K) (fun _ => K)
  · rw [if_neg z] at H
    unfold wX_readCaret_32
    exact nm_r (by rw [sv_100, sv_99]) H
theorem sv_bound1 {post : Int32 → St2 → Prop} {k M m : Nat} (hk : k ≤ 1) (hM : M < 10) (hm : m < 10) (e0 : a1 k = nI (48 + M)) (e1 : a1 (k + 1) = 46) (e2 : a1 (k + 2) = nI (48 + m))
    (H : post 1 (nI (k + 3), nI (k + 3), nI M, nI m, 2, nI (100 * M + 10 * m), nI (100 * M + 10 * m + 9), il, nI (100 * M + 10 * m) - 1, mc, a1, a2, a3, a4, a5, a6, a7, a8)) : wpX_readBound post (nI (k + 3), nI k, mj, mn, dg, lo, hi, il, ih, mc, a1, a2, a3, a4, a5, a6, a7, a8) 1 := by
  unfold wpX_readBound
  refine sv_pass_no (by omega) (by omega) (by rw [e0]; exact (sv_ne M hM).2.2.2.2.2) ?_
  exact sv_readp hk hM hm e0 e1 e2 (br_f (by decide) (br_f (by decide) (br_t rfl (nm_e H))))
theorem sv_bound0 {post : Int32 → St2 → Prop} {k M m : Nat} (hk : k ≤ 1) (hM : M < 10) (hm : m < 10) (e0 : a1 k = nI (48 + M)) (e1 : a1 (k + 1) = 46) (e2 : a1 (k + 2) = nI (48 + m))
    (H : post 1 (nI (k + 3), nI (k + 3), nI M, nI m, 2, nI (100 * M + 10 * m), nI (100 * M + 10 * m + 9), nI (100 * M + 10 * m + 10), ih, mc, a1, a2, a3, a4, a5, a6, a7, a8)) : wpX_readBound post (nI (k + 3), nI k, mj, mn, dg, lo, hi, il, ih, mc, a1, a2, a3, a4, a5, a6, a7, a8) 0 := by
  unfold wpX_readBound
  refine sv_pass_no (by omega) (by omega) (by rw [e0]; exact (sv_ne M hM).2.2.2.2.2) ?_
  exact sv_readp hk hM hm e0 e1 e2 (br_f (by decide) (br_t rfl (br_t rfl (nm_r (nI_1 _) H))))
/-! the item, a lemma a form -/
theorem sv_item0 {post : Int32 → St2 → Prop} {M m : Nat} (hM : M < 10) (hm : m < 10) (ec : a1 0 = 60) (e0 : a1 1 = nI (48 + M)) (e1 : a1 2 = 46) (e2 : a1 3 = nI (48 + m))
    (H : post 1 (nI 4, nI 4, nI M, nI m, 2, nI (100 * M + 10 * m), nI (100 * M + 10 * m + 9), 0, nI (100 * M + 10 * m) - 1, mc, a1, a2, a3, a4, a5, a6, a7, a8)) : wpX_readItem post (nI 4, nI 0, mj, mn, dg, lo, hi, il, ih, mc, a1, a2, a3, a4, a5, a6, a7, a8) := by
  unfold wpX_readItem
  refine sv_pass_no (p := 0) (by omega) (by omega) (by rw [ec]; decide) (br_t rfl ?_)
  refine sv_pass_yes (p := 0) (by omega) (by omega) ec (br_f (by decide) ?_)
  exact sv_bound1 (k := 1) (by omega) hM hm e0 e1 e2 ⟨rfl, H⟩
theorem sv_item1 {post : Int32 → St2 → Prop} {M m : Nat} (hM : M < 10) (hm : m < 10) (ec : a1 0 = 62) (e0 : a1 1 = nI (48 + M)) (e1 : a1 2 = 46) (e2 : a1 3 = nI (48 + m))
    (H : post 1 (nI 4, nI 4, nI M, nI m, 2, nI (100 * M + 10 * m), nI (100 * M + 10 * m + 9), nI (100 * M + 10 * m + 10), 999, mc, a1, a2, a3, a4, a5, a6, a7, a8)) : wpX_readItem post (nI 4, nI 0, mj, mn, dg, lo, hi, il, ih, mc, a1, a2, a3, a4, a5, a6, a7, a8) := by
  unfold wpX_readItem
  refine sv_pass_no (p := 0) (by omega) (by omega) (by rw [ec]; decide) (br_t rfl ?_)
  refine sv_pass_no (p := 0) (by omega) (by omega) (by rw [ec]; decide) (br_t rfl ?_)
  refine sv_pass_yes (p := 0) (by omega) (by omega) ec (br_f (by decide) ?_)
  exact sv_bound0 (k := 1) (by omega) hM hm e0 e1 e2 ⟨rfl, H⟩
theorem sv_item2 {post : Int32 → St2 → Prop} {M m : Nat} (hM : M < 10) (hm : m < 10) (ec : a1 0 = 94) (e0 : a1 1 = nI (48 + M)) (e1 : a1 2 = 46) (e2 : a1 3 = nI (48 + m))
    (H : post 1 (nI 4, nI 4, nI M, nI m, 2, nI (100 * M + 10 * m), nI (100 * M + 10 * m + 9), nI (100 * M + 10 * m), nI (if M = 0 then 10 * m + 9 else 100 * M + 99), mc, a1, a2, a3, a4, a5, a6, a7, a8)) : wpX_readItem post (nI 4, nI 0, mj, mn, dg, lo, hi, il, ih, mc, a1, a2, a3, a4, a5, a6, a7, a8) := by
  unfold wpX_readItem
  refine sv_pass_no (p := 0) (by omega) (by omega) (by rw [ec]; decide) (br_t rfl ?_)
  refine sv_pass_no (p := 0) (by omega) (by omega) (by rw [ec]; decide) (br_t rfl ?_)
  refine sv_pass_no (p := 0) (by omega) (by omega) (by rw [ec]; decide) (br_t rfl ?_)
  refine sv_pass_yes (p := 0) (by omega) (by omega) ec (br_f (by decide) ?_)
  exact sv_caret (k := 1) (by omega) hM hm e0 e1 e2 ⟨rfl, H⟩
theorem sv_item3 {post : Int32 → St2 → Prop} {M m : Nat} (hM : M < 10) (hm : m < 10) (ec : a1 0 = 126) (e0 : a1 1 = nI (48 + M)) (e1 : a1 2 = 46) (e2 : a1 3 = nI (48 + m))
    (H : post 1 (nI 4, nI 4, nI M, nI m, 2, nI (100 * M + 10 * m), nI (100 * M + 10 * m + 9), nI (100 * M + 10 * m), nI (100 * M + 10 * m + 9), mc, a1, a2, a3, a4, a5, a6, a7, a8)) : wpX_readItem post (nI 4, nI 0, mj, mn, dg, lo, hi, il, ih, mc, a1, a2, a3, a4, a5, a6, a7, a8) := by
  unfold wpX_readItem
  refine sv_pass_no (p := 0) (by omega) (by omega) (by rw [ec]; decide) (br_t rfl ?_)
  refine sv_pass_no (p := 0) (by omega) (by omega) (by rw [ec]; decide) (br_t rfl ?_)
  refine sv_pass_no (p := 0) (by omega) (by omega) (by rw [ec]; decide) (br_t rfl ?_)
  refine sv_pass_no (p := 0) (by omega) (by omega) (by rw [ec]; decide) (br_t rfl ?_)
  refine sv_pass_yes (p := 0) (by omega) (by omega) ec (br_f (by decide) ?_)
  exact sv_tilde (k := 1) (by omega) hM hm e0 e1 e2 ⟨rfl, H⟩
theorem sv_item4 {post : Int32 → St2 → Prop} {M m : Nat} (hM : M < 10) (hm : m < 10) (e0 : a1 0 = nI (48 + M)) (e1 : a1 1 = 46) (e2 : a1 2 = nI (48 + m))
    (H : post 1 (nI 3, nI 3, nI M, nI m, 2, nI (100 * M + 10 * m), nI (100 * M + 10 * m + 9), nI (100 * M + 10 * m), nI (100 * M + 10 * m + 9), mc, a1, a2, a3, a4, a5, a6, a7, a8)) : wpX_readItem post (nI 3, nI 0, mj, mn, dg, lo, hi, il, ih, mc, a1, a2, a3, a4, a5, a6, a7, a8) := by
  obtain ⟨n1, n2, n3, n4, n5, n6⟩ := sv_ne M hM
  unfold wpX_readItem
  refine sv_pass_no (p := 0) (by omega) (by omega) (by rw [e0]; exact n1) (br_t rfl ?_)
  refine sv_pass_no (p := 0) (by omega) (by omega) (by rw [e0]; exact n2) (br_t rfl ?_)
  refine sv_pass_no (p := 0) (by omega) (by omega) (by rw [e0]; exact n3) (br_t rfl ?_)
  refine sv_pass_no (p := 0) (by omega) (by omega) (by rw [e0]; exact n4) (br_t rfl ?_)
  refine sv_pass_no (p := 0) (by omega) (by omega) (by rw [e0]; exact n5) (br_t rfl ?_)
  refine sv_readp (k := 0) (by omega) hM hm e0 e1 e2 (br_f (by decide) ?_)
  exact sv_pass_end (t := 3) (p := 3) (by omega) (by omega) (br_t rfl H)
end
end
section
section
variable {tl ap mj mn dg lo hi il ih mc : Int32} {a1 a2 a3 a4 a5 a6 a7 a8 : Nat → Int32}
/-- the interval of a clause: if it isn't empty its ends are small -/
def sv_ends (x y : Int32) : Prop := x ≤ y → ∃ a b : Nat, x = nI a ∧ y = nI b ∧ a ≤ b ∧ b ≤ 999
theorem sv_unite {post : St2 → Prop} {x y : Int32} (hs : sv_ends x y)
    (H : ∀ (c : Nat) (A5 A6 A7 A8 : Nat → Int32), (x ≤ y → c = 1 ∧ A5 0 = x ∧ A6 0 = y) → (¬ x ≤ y → c = 0) → post (tl, ap, mj, mn, dg, lo, hi, il, ih, nI c, a1, a2, a3, a4, A5, A6, A7, A8)) : wpX_unite post (tl, ap, mj, mn, dg, lo, hi, il, ih, 0, a1, a2, a3, a4, a5, a6, a7, a8) x y := by
  unfold wpX_unite
  refine br_c (fun h => ?_) (fun h => H 0 a5 a6 a7 a8 (fun g => absurd g h) (fun _ => rfl))
  obtain ⟨a, b, rfl, rfl, hab, hb⟩ := hs h
  refine ⟨0 + 1, br_t (by decide) (br_t rfl ⟨pk_in 0 64 (by omega), nm_e ⟨pk_in 0 64 (by omega), nm_e (nm_r (e' := nI 1) (by decide) ⟨0 + 1 + 1, ?_⟩)⟩⟩)⟩
  refine br_f (by decide) ⟨pk_in 0 64 (by omega), pk_in 0 64 (by omega), nm_e ⟨pk_in 0 64 (by omega), pk_in 0 64 (by omega), nm_e (nm_r (e' := nI 1) (by decide) (br_t (by decide) ?_))⟩⟩
  refine H 1 _ _ _ _ (fun _ => ⟨rfl, ?_, ?_⟩) (fun g => absurd h g)
  · rw [sb_cl0, pk_us, pk_us, pk_vs, sv_short a (by omega)]
  · rw [sb_cl0, pk_us, pk_us, pk_vs, sv_short b (by omega)]
theorem sv_clause {post : Int32 → St2 → Prop} {t : Nat} {IL IH jM jm jl jh : Int32} (ht : t ≤ 40) (h0 : 0 ≤ IL) (h9 : IH ≤ 999) (hs : sv_ends IL IH)
    (hit : ∀ post' : Int32 → St2 → Prop, post' 1 (nI t, nI t, jM, jm, 2, jl, jh, IL, IH, 0, a1, a2, a3, a4, a5, a6, a7, a8) → wpX_readItem post' (nI t, 0, mj, mn, dg, lo, hi, il, ih, 0, a1, a2, a3, a4, a5, a6, a7, a8))
    (H : ∀ (c : Nat) (A5 A6 A7 A8 : Nat → Int32), (IL ≤ IH → c = 1 ∧ A5 0 = IL ∧ A6 0 = IH) → (¬ IL ≤ IH → c = 0) → post 1 (nI t, nI t, jM, jm, 2, jl, jh, IL, IH, nI c, a1, a2, a3, a4, A5, A6, A7, A8)) :
    wpX_readClause post (nI t, 0, mj, mn, dg, lo, hi, il, ih, 0, a1, a2, a3, a4, a5, a6, a7, a8) := by
  have K : wX_readClause_8 post (0 + 1) IL IH 0 (nI t) (nI t) jM jm 2 jl jh IL IH 0 a1 a2 a3 a4 a5 a6 a7 a8 := br_t rfl (sv_unite hs H)
  have K47 : ∀ z, z = IH → wX_readClause_47 post (wX_readClause_8 post (0 + 1)) IL z (nI t) (nI t) jM jm 2 jl jh IL IH 0 a1 a2 a3 a4 a5 a6 a7 a8 := by
    intro z ez
    subst ez
    unfold wX_readClause_47
    exact sv_pass_end (t := t) (p := t) (by omega) (by omega) K
  have K34 : ∀ z, z = IL → wX_readClause_34 post (wX_readClause_8 post (0 + 1)) z 999 (nI t) (nI t) jM jm 2 jl jh IL IH 0 a1 a2 a3 a4 a5 a6 a7 a8 := by
    intro z ez
    subst ez
    unfold wX_readClause_34
    exact br_c (fun g => K47 999 (Int32.le_antisymm g h9)) (fun _ => K47 IH rfl)
  unfold wpX_readClause
  exact ⟨0 + 1 + 1, br_f (by decide) (hit _ (br_f (by decide) (br_c (fun g => K34 0 (Int32.le_antisymm h0 g)) (fun _ => K34 IL rfl))))⟩
theorem sv_range {post : Int32 → St2 → Prop} {t : Nat} {IL IH jM jm jl jh : Int32} (ht : t ≤ 40) (h0 : 0 ≤ IL) (h9 : IH ≤ 999) (hs : sv_ends IL IH)
    (hit : ∀ post' : Int32 → St2 → Prop, post' 1 (nI t, nI t, jM, jm, 2, jl, jh, IL, IH, 0, a1, a2, a3, a4, a5, a6, a7, a8) → wpX_readItem post' (nI t, 0, mj, mn, dg, lo, hi, il, ih, 0, a1, a2, a3, a4, a5, a6, a7, a8))
    (H : ∀ (c : Nat) (A5 A6 A7 A8 : Nat → Int32), (IL ≤ IH → c = 1 ∧ A5 0 = IL ∧ A6 0 = IH) → (¬ IL ≤ IH → c = 0) → post 1 (nI t, nI t, jM, jm, 2, jl, jh, IL, IH, nI c, a1, a2, a3, a4, A5, A6, A7, A8)) :
    wpX_readRange post (nI t, ap, mj, mn, dg, lo, hi, il, ih, mc, a1, a2, a3, a4, a5, a6, a7, a8) := by
  unfold wpX_readRange
  refine ⟨0 + 1 + 1, br_f (by decide) (sv_clause ht h0 h9 hs hit (fun c A5 A6 A7 A8 p q => br_f (by decide) ?_))⟩
  exact sv_pass_end (t := t) (p := t) (by omega) (by omega) (br_t rfl (br_t rfl (H c A5 A6 A7 A8 p q)))
theorem sv_ix (d i : Nat) : 24 * nI d + nI i = nI (24 * d + i) := by
  rw [show 24 * nI d = nI (24 * d) from pk_mul 24 d, nI_add]
theorem sv_put {f s : Nat → Int32} {o i k : Nat} {x : Int32} (hk : k = o + i) (h : ∀ j, j < i → s (o + j) = f j) (hx : x = f i) : ∀ j, j < i + 1 → upd s k x (o + j) = f j := by
  intro j hj
  rw [hk]
  by_cases e : j = i
  · rw [e, pk_us, hx]
  · rw [pk_un (by omega)]
    exact h j (by omega)
theorem sv_keep {post : Int32 → St2 → Prop} {d c : Nat} (hd : d ≤ 3) (hc : c ≤ 24)
    (H : ∀ A3 A4 : Nat → Int32, (∀ i, i < c → A3 (24 * d + i) = vp_nar .short (a5 i)) → (∀ i, i < c → A4 (24 * d + i) = vp_nar .short (a6 i)) → post 1 (tl, ap, mj, mn, dg, lo, hi, il, ih, nI c, a1, upd a2 d (nI c).toInt8.toInt32, A3, A4, a5, a6, a7, a8)) :
    wpX_keep post (tl, ap, mj, mn, dg, lo, hi, il, ih, nI c, a1, a2, a3, a4, a5, a6, a7, a8) (nI d) := by
  unfold wpX_keep
  exact pk_loop (fun n i (s : (Nat → Int32) × (Nat → Int32)) => wX_keep_2 post (nI d) tl ap mj mn dg lo hi il ih (nI c) n (nI i) a1 a2 s.1 s.2 a5 a6 a7 a8) (fun i s => (∀ j, j < i → s.1 (24 * d + j) = vp_nar .short (a5 j)) ∧ (∀ j, j < i → s.2 (24 * d + j) = vp_nar .short (a6 j))) c 0 (a3, a4) (by omega) ⟨fun j hj => absurd hj (by omega), fun j hj => absurd hj (by omega)⟩
    (fun n s h => pk_le c c (fun _ => ⟨pk_in d 4 (by omega), nm_r (by rw [nI_clamp (by omega)]) (H s.1 s.2 h.1 h.2)⟩) (fun z => absurd z (by omega)))
    (fun n i s hi h hw => pk_le c i (fun z => absurd z (by omega)) (fun _ => ⟨pk_in i 64 (by omega), pk_in (24 * d + i) 96 (by omega) (sv_ix d i), nm_e ⟨pk_in i 64 (by omega), pk_in (24 * d + i) 96 (by omega) (sv_ix d i), nm_e (nm_r (nI_1 i)
      (hw (_, _) ⟨sv_put (f := fun j => vp_nar .short (a5 j)) (pk_cl (24 * d + i) (sv_ix d i)) h.1 (by rw [nI_clamp (by omega)]), sv_put (f := fun j => vp_nar .short (a6 j)) (pk_cl (24 * d + i) (sv_ix d i)) h.2 (by rw [nI_clamp (by omega)])⟩))⟩⟩))
theorem sv_count {post : Int32 → Prop} {d c : Nat} (hd : d ≤ 3) (hc : c ≤ 24) (e : a2 d = nI c) (H : post (bx_sum (fun i => a4 (24 * d + i) - a3 (24 * d + i) + 1) c)) : wpX_count post (tl, ap, mj, mn, dg, lo, hi, il, ih, mc, a1, a2, a3, a4, a5, a6, a7, a8) (nI d) := by
  have hx : 24 * nI d + a2 (nI d).toNatClampNeg = nI (24 * d + c) := by rw [nI_clamp (by omega), e, sv_ix]
  unfold wpX_count
  refine sv_isRange (nI_pos (by omega)) (nI_nlt (a := 3) hd (by omega)) (br_f (by decide) (nm_r (e' := nI (24 * d)) (pk_mul 24 d) ?_))
  exact pk_loop (fun n i (s : Int32) => wX_count_17 post (nI d) tl ap mj mn dg lo hi il ih mc a1 a2 a3 a4 a5 a6 a7 a8 n s (nI (24 * d + i))) (fun i s => s = bx_sum (fun i => a4 (24 * d + i) - a3 (24 * d + i) + 1) i) c 0 0 (by omega) rfl
    (fun n s h => ⟨pk_in d 4 (by omega), pk_le (24 * d + c) (24 * d + c) (fun _ => by rw [h]; exact H) (fun z => absurd z (by omega)) hx⟩)
    (fun n i s hi h hw => ⟨pk_in d 4 (by omega), pk_le (24 * d + c) (24 * d + i) (fun z => absurd z (by omega)) (fun _ => ⟨pk_in (24 * d + i) 96 (by omega), pk_in (24 * d + i) 96 (by omega), nm_r (e' := bx_sum (fun i => a4 (24 * d + i) - a3 (24 * d + i) + 1) (i + 1)) (by rw [nI_clamp (by omega), h]; rfl) (nm_r (nI_1 (24 * d + i)) (hw _ rfl))⟩) hx⟩)
theorem sv_read {post : Int32 → St2 → Prop} {t : Nat} {IL IH jM jm jl jh : Int32} (ht : t ≤ 40) (h0 : 0 ≤ IL) (h9 : IH ≤ 999) (hs : sv_ends IL IH)
    (hit : ∀ post' : Int32 → St2 → Prop, post' 1 (nI t, nI t, jM, jm, 2, jl, jh, IL, IH, 0, a1, a2, a3, a4, a5, a6, a7, a8) → wpX_readItem post' (nI t, 0, mj, mn, dg, lo, hi, il, ih, 0, a1, a2, a3, a4, a5, a6, a7, a8))
    (H : ∀ (c : Nat) (tl' ap' mj' mn' dg' lo' hi' il' ih' mc' : Int32) (a1' a2' a3' a4' a5' a6' a7' a8' : Nat → Int32), a2' 1 = nI c → (IL ≤ IH → c = 1 ∧ a3' 24 = IL ∧ a4' 24 = IH) → (¬ IL ≤ IH → c = 0) → post (bx_sum (fun i => a4' (24 * 1 + i) - a3' (24 * 1 + i) + 1) c) (tl', ap', mj', mn', dg', lo', hi', il', ih', mc', a1', a2', a3', a4', a5', a6', a7', a8')) :
    wpX_read post (nI t, ap, mj, mn, dg, lo, hi, il, ih, mc, a1, a2, a3, a4, a5, a6, a7, a8) 1 := by
  unfold wpX_read
  refine sv_isRange (by decide) (by decide) (br_f (by decide) (sv_range ht h0 h9 hs hit (fun c A5 A6 A7 A8 p q => br_f (by decide) ?_)))
  have hc : c ≤ 1 := by
    rcases Classical.em (IL ≤ IH) with g | g
    · have := (p g).1
      omega
    · have := q g
      omega
  refine sv_keep (d := 1) (by omega) (by omega) (fun A3 A4 r3 r4 => ?_)
  have e2 : upd a2 1 (nI c).toInt8.toInt32 1 = nI c := by
    rw [pk_us]
    rcases (show c = 0 ∨ c = 1 by omega) with z | z
    · rw [z]; decide
    · rw [z]; decide
  refine sv_count (d := 1) (c := c) (by omega) (by omega) e2 (H c _ _ _ _ _ _ _ _ _ _ _ _ _ _ _ _ _ _ e2 (fun g => ?_) q)
  obtain ⟨p1, p2, p3⟩ := p g
  obtain ⟨a, b, ea, eb, hab, hb⟩ := hs g
  refine ⟨p1, ?_, ?_⟩
  · rw [r3 0 (by omega), p2, ea, vp_nar_short, sv_short a (by omega)]
  · rw [r4 0 (by omega), p3, eb, vp_nar_short, sv_short b (by omega)]
end
end
section
section
variable {tl ap mj mn dg lo hi il ih mc : Int32} {a1 a2 a3 a4 a5 a6 a7 a8 : Nat → Int32}
theorem sv_cl1 : (1 : Int32).toNatClampNeg = 1 := by decide
theorem sv_stretches {post : Int32 → Prop} {c : Nat} (e2 : a2 1 = nI c) (H : post (nI c)) : wpX_stretches post (tl, ap, mj, mn, dg, lo, hi, il, ih, mc, a1, a2, a3, a4, a5, a6, a7, a8) 1 := by
  unfold wpX_stretches
  refine sv_isRange (by decide) (by decide) (br_f (by decide) ⟨pk_in 1 4 (by omega), ?_⟩)
  rw [sv_cl1, e2]
  exact H
theorem sv_least1 {post : Int32 → Prop} {q F T : Int32} (e2 : a2 1 = nI 1) (e3 : a3 24 = F) (e4 : a4 24 = T) (H1 : T < q → post (-3)) (H2 : ¬ T < q → F ≤ q → post q) (H3 : ¬ T < q → ¬ F ≤ q → post F) : wpX_atLeast post (tl, ap, mj, mn, dg, lo, hi, il, ih, mc, a1, a2, a3, a4, a5, a6, a7, a8) 1 q := by
  have hx : 24 * 1 + a2 (1 : Int32).toNatClampNeg = nI 25 := by rw [sv_cl1, e2]; decide
  have c24 : (nI 24).toNatClampNeg = 24 := nI_clamp (by omega)
  unfold wpX_atLeast
  refine sv_isRange (by decide) (by decide) (br_f (by decide) (nm_r (e' := nI 24) (by decide) ⟨0 + 1 + 1, pk_in 1 4 (by omega), br_f (by rw [hx]; decide) ⟨pk_in 24 96 (by omega), br_c (fun g => ?_) (fun g => ?_)⟩⟩))
  · rw [c24, e4] at g
    exact nm_r (e' := nI 25) (by decide) ⟨pk_in 1 4 (by omega), br_t (by rw [hx]; exact Int32.le_refl _) (H1 g)⟩
  · rw [c24, e4] at g
    refine ⟨pk_in 24 96 (by omega), ?_⟩
    rw [c24, e3]
    exact br_c (fun g2 => H2 g g2) (fun g2 => ⟨pk_in 24 96 (by omega), H3 g g2⟩)
theorem sv_least0 {post : Int32 → Prop} {q : Int32} (e2 : a2 1 = nI 0) (H : post (-3)) : wpX_atLeast post (tl, ap, mj, mn, dg, lo, hi, il, ih, mc, a1, a2, a3, a4, a5, a6, a7, a8) 1 q := by
  have hx : 24 * 1 + a2 (1 : Int32).toNatClampNeg = nI 24 := by rw [sv_cl1, e2]; decide
  unfold wpX_atLeast
  exact sv_isRange (by decide) (by decide) (br_f (by decide) (nm_r (e' := nI 24) (by decide) ⟨0 + 1, pk_in 1 4 (by omega), br_t (by rw [hx]; exact Int32.le_refl _) H⟩))
theorem sv_most1 {post : Int32 → Prop} {q F T : Int32} (e2 : a2 1 = nI 1) (e3 : a3 24 = F) (e4 : a4 24 = T) (H1 : q < F → post (-3)) (H2 : ¬ q < F → q ≤ T → post q) (H3 : ¬ q < F → ¬ q ≤ T → post T) : wpX_atMost post (tl, ap, mj, mn, dg, lo, hi, il, ih, mc, a1, a2, a3, a4, a5, a6, a7, a8) 1 q := by
  have hx : 24 * 1 + a2 (1 : Int32).toNatClampNeg - 1 = nI 24 := by rw [sv_cl1, e2]; decide
  have c24 : (nI 24).toNatClampNeg = 24 := nI_clamp (by omega)
  unfold wpX_atMost
  refine sv_isRange (by decide) (by decide) (br_f (by decide) ⟨pk_in 1 4 (by omega), nm_r hx ⟨0 + 1 + 1, br_f (by decide) ⟨pk_in 24 96 (by omega), br_c (fun g => ?_) (fun g => ?_)⟩⟩⟩)
  · rw [c24, e3] at g
    exact nm_r (e' := nI 23) (by decide) (br_t (by decide) (H1 g))
  · rw [c24, e3] at g
    refine ⟨pk_in 24 96 (by omega), ?_⟩
    rw [c24, e4]
    exact br_c (fun g2 => H2 g g2) (fun g2 => ⟨pk_in 24 96 (by omega), H3 g g2⟩)
theorem sv_most0 {post : Int32 → Prop} {q : Int32} (e2 : a2 1 = nI 0) (H : post (-3)) : wpX_atMost post (tl, ap, mj, mn, dg, lo, hi, il, ih, mc, a1, a2, a3, a4, a5, a6, a7, a8) 1 q := by
  have hx : 24 * 1 + a2 (1 : Int32).toNatClampNeg - 1 = nI 23 := by rw [sv_cl1, e2]; decide
  unfold wpX_atMost
  exact sv_isRange (by decide) (by decide) (br_f (by decide) ⟨pk_in 1 4 (by omega), nm_r hx ⟨0 + 1, br_t (by decide) H⟩⟩)
theorem sv_sumc {f g : Nat → Int32} : ∀ k : Nat, (∀ i, i < k → f i = g i) → bx_sum f k = bx_sum g k
  | 0, _ => rfl
  | k + 1, h => by
    show bx_sum f k + f k = bx_sum g k + g k
    rw [sv_sumc k (fun i hi => h i (by omega)), h k (by omega)]
theorem sv_byte : ∀ k, k < 3 → (nI k).toInt8.toInt32 = nI k := by decide
theorem sv_inv_end {post : Int32 → St2 → Prop} {c n : Nat} {x4 : Int32} (hc : c ≤ 1) (hn : n ≤ 1000) (h : a2 1 ≤ x4)
    (H : ∀ (k : Nat) (tl' ap' mj' mn' dg' lo' hi' il' ih' mc' : Int32) (a1' a2' a3' a4' a5' a6' a7' a8' : Nat → Int32), k ≤ 2 → a2' 2 = nI k → bx_sum (fun i => a4' (24 * 2 + i) - a3' (24 * 2 + i) + 1) k = bx_sum (fun i => vp_nar .short (a6 i) - vp_nar .short (a5 i) + 1) c + (1000 - nI n) → post 1 (tl', ap', mj', mn', dg', lo', hi', il', ih', mc', a1', a2', a3', a4', a5', a6', a7', a8')) :
    wX_invert_28 post 2 1 (0 + 1) (nI n) x4 tl ap mj mn dg lo hi il ih (nI c) a1 a2 a3 a4 a5 a6 a7 a8 := by
  refine ⟨pk_in 1 4 (by omega), br_t h ?_⟩
  unfold wpX_append
  rcases (show n ≤ 999 ∨ n = 1000 by omega) with g | g
  · refine br_t (nI_le (b := 999) g (by omega)) ⟨pk_in c 64 (by omega), nm_e ⟨pk_in c 64 (by omega), nm_e (nm_r (nI_1 c) ?_)⟩⟩
    refine br_f (nI_nlt (a := 24) (by omega) (by omega)) ?_
    refine sv_keep (d := 2) (c := c + 1) (by omega) (by omega) (fun A3 A4 r3 r4 => br_f (by decide) ?_)
    refine H (c + 1) _ _ _ _ _ _ _ _ _ _ _ _ _ _ _ _ _ _ (by omega) (by rw [pk_us]; exact sv_byte (c + 1) (by omega)) ?_
    have cl : (nI c).toNatClampNeg = c := nI_clamp (by omega)
    show bx_sum (fun i => A4 (24 * 2 + i) - A3 (24 * 2 + i) + 1) c + (A4 (24 * 2 + c) - A3 (24 * 2 + c) + 1) = _
    rw [r3 c (by omega), r4 c (by omega), cl, pk_us, pk_us, pk_vs, pk_vs, sv_short n (by omega), show (999 : Int32).toInt16.toInt32 = 999 from by decide]
    rw [sv_sumc (g := fun i => vp_nar .short (a6 i) - vp_nar .short (a5 i) + 1) c (fun i hi => by
      show A4 (24 * 2 + i) - A3 (24 * 2 + i) + 1 = vp_nar .short (a6 i) - vp_nar .short (a5 i) + 1
      rw [r3 i (by omega), r4 i (by omega), cl, pk_un (by omega), pk_un (by omega)])]
    grind
  · refine br_f (nI_ge (a := 999) (by omega) (by omega)) ?_
    refine br_f (nI_nlt (a := 24) (by omega) (by omega)) ?_
    refine sv_keep (d := 2) (c := c) (by omega) (by omega) (fun A3 A4 r3 r4 => br_f (by decide) ?_)
    refine H c _ _ _ _ _ _ _ _ _ _ _ _ _ _ _ _ _ _ (by omega) (by rw [pk_us]; exact sv_byte c (by omega)) ?_
    rw [sv_sumc (g := fun i => vp_nar .short (a6 i) - vp_nar .short (a5 i) + 1) c (fun i hi => by
      show A4 (24 * 2 + i) - A3 (24 * 2 + i) + 1 = vp_nar .short (a6 i) - vp_nar .short (a5 i) + 1
      rw [r3 i (by omega), r4 i (by omega)])]
    rw [g, show (1000 : Int32) - nI 1000 = 0 from by decide, Int32.add_zero]
theorem sv_invert0 {post : Int32 → St2 → Prop} (e2 : a2 1 = nI 0)
    (H : ∀ (k : Nat) (tl' ap' mj' mn' dg' lo' hi' il' ih' mc' : Int32) (a1' a2' a3' a4' a5' a6' a7' a8' : Nat → Int32), k ≤ 2 → a2' 2 = nI k → bx_sum (fun i => a4' (24 * 2 + i) - a3' (24 * 2 + i) + 1) k = 1000 - 0 → post 1 (tl', ap', mj', mn', dg', lo', hi', il', ih', mc', a1', a2', a3', a4', a5', a6', a7', a8')) : wpX_invert post (tl, ap, mj, mn, dg, lo, hi, il, ih, mc, a1, a2, a3, a4, a5, a6, a7, a8) 2 1 := by
  unfold wpX_invert
  refine sv_isRange (by decide) (by decide) (br_f (by decide) (sv_isRange (by decide) (by decide) (br_f (by decide) ⟨0 + 1, ?_⟩)))
  exact sv_inv_end (c := 0) (n := 0) (by omega) (by omega) (by rw [e2]; decide) (fun k tl' ap' mj' mn' dg' lo' hi' il' ih' mc' a1' a2' a3' a4' a5' a6' a7' a8' hk h2 hsum => H k _ _ _ _ _ _ _ _ _ _ _ _ _ _ _ _ _ _ hk h2 (hsum.trans (by show (0 : Int32) + (1000 - nI 0) = 1000 - 0; decide)))
theorem sv_pred {a : Nat} (h : 1 ≤ a) : nI a - 1 = nI (a - 1) := by
  have e := nI_pred (a - 1)
  rw [show a - 1 + 1 = a by omega] at e
  exact e
theorem sv_invert1 {post : Int32 → St2 → Prop} {a b : Nat} (hab : a ≤ b) (hb : b ≤ 999) (e2 : a2 1 = nI 1) (e3 : a3 24 = nI a) (e4 : a4 24 = nI b)
    (H : ∀ (k : Nat) (tl' ap' mj' mn' dg' lo' hi' il' ih' mc' : Int32) (a1' a2' a3' a4' a5' a6' a7' a8' : Nat → Int32), k ≤ 2 → a2' 2 = nI k → bx_sum (fun i => a4' (24 * 2 + i) - a3' (24 * 2 + i) + 1) k = 1000 - (nI b - nI a + 1) → post 1 (tl', ap', mj', mn', dg', lo', hi', il', ih', mc', a1', a2', a3', a4', a5', a6', a7', a8')) : wpX_invert post (tl, ap, mj, mn, dg, lo, hi, il, ih, mc, a1, a2, a3, a4, a5, a6, a7, a8) 2 1 := by
  have hcl : ((24 * 1 + 0 : Int32)).toNatClampNeg = 24 := by decide
  have hin : vp_in (24 * 1 + 0 : Int32) 96 := pk_in 24 96 (by omega) (by decide)
  have hb1 : nI b + 1 = nI (b + 1) := nI_1 b
  unfold wpX_invert
  refine sv_isRange (by decide) (by decide) (br_f (by decide) (sv_isRange (by decide) (by decide) (br_f (by decide) ⟨0 + 1 + 1, ?_⟩)))
  refine ⟨pk_in 1 4 (by omega), br_f (by rw [sv_cl1, e2]; decide) ⟨hin, ?_⟩⟩
  unfold wpX_append
  rw [hcl, e3]
  rcases (show a = 0 ∨ 1 ≤ a by omega) with g | g
  · refine br_f (by rw [g]; decide) ⟨hin, nm_r (e' := nI (b + 1)) (by rw [e4, hb1]) (nm_r (e' := nI 1) (by decide) ?_)⟩
    refine sv_inv_end (c := 0) (n := b + 1) (by omega) (by omega) (by rw [e2]; exact Int32.le_refl _) (fun k tl' ap' mj' mn' dg' lo' hi' il' ih' mc' a1' a2' a3' a4' a5' a6' a7' a8' hk h2 hsum => H k _ _ _ _ _ _ _ _ _ _ _ _ _ _ _ _ _ _ hk h2 (hsum.trans ?_))
    show (0 : Int32) + (1000 - nI (b + 1)) = 1000 - (nI b - nI a + 1)
    rw [g, ← hb1, nI_0]
    grind
  · refine br_t (by rw [sv_pred g]; exact nI_pos' (by omega)) ⟨pk_in 0 64 (by omega), nm_e ⟨pk_in 0 64 (by omega), nm_e (nm_r (e' := nI 1) (by decide) ⟨hin, nm_r (e' := nI (b + 1)) (by rw [e4, hb1]) (nm_r (e' := nI 1) (by decide) ?_)⟩)⟩⟩
    refine sv_inv_end (c := 1) (n := b + 1) (by omega) (by omega) (by rw [e2]; exact Int32.le_refl _) (fun k tl' ap' mj' mn' dg' lo' hi' il' ih' mc' a1' a2' a3' a4' a5' a6' a7' a8' hk h2 hsum => H k _ _ _ _ _ _ _ _ _ _ _ _ _ _ _ _ _ _ hk h2 (hsum.trans ?_))
    show (0 : Int32) + (vp_nar .short (upd a6 (0 : Int32).toNatClampNeg (nI a - 1).toInt16.toInt32 0) - vp_nar .short (upd a5 (0 : Int32).toNatClampNeg (0 : Int32).toInt16.toInt32 0) + 1) + (1000 - nI (b + 1)) = 1000 - (nI b - nI a + 1)
    rw [sb_cl0, pk_us, pk_us, pk_vs, pk_vs, sv_pred g, sv_short (a - 1) (by omega), ← sv_pred g, ← hb1, show (0 : Int32).toInt16.toInt32 = 0 from by decide]
    grind
end
end
section
section
variable {post : Int32 → St0 → Prop} {m0 s0 kc ks : Nat} {q : Int32} {tl ap mj mn dg lo hi il ih mc : Int32} {a1 a2 a3 a4 a5 a6 a7 a8 : Nat → Int32}
/-! the law behind read: the interval is a..b -/
theorem sv_372s {a b : Nat} {z : Int32} (hp : post 1 ()) (hab : a ≤ b) (hb : b ≤ 999) (e2 : a2 1 = nI 1) (e3 : a3 24 = nI a) (e4 : a4 24 = nI b) : wL_lawOf_372 post m0 s0 (nI a) (nI b) 1 z z kc ks tl ap mj mn dg lo hi il ih mc a1 a2 a3 a4 a5 a6 a7 a8 := by
  unfold wL_lawOf_372
  exact br_t rfl (sv_invert1 hab hb e2 e3 e4 (fun k tl' ap' mj' mn' dg' lo' hi' il' ih' mc' a1' a2' a3' a4' a5' a6' a7' a8' hk h2 hsum => br_f (by decide) (sv_count (d := 2) (c := k) (by omega) (by omega) h2 (br_f (by decide) (br_t hsum hp)))))
theorem sv_332s {a b : Nat} {z : Int32} (hp : post 1 ()) (hab : a ≤ b) (hb : b ≤ 999) (e2 : a2 1 = nI 1) (e3 : a3 24 = nI a) (e4 : a4 24 = nI b) : wL_lawOf_332 post m0 s0 q (nI a) (nI b) 1 z z kc ks tl ap mj mn dg lo hi il ih mc a1 a2 a3 a4 a5 a6 a7 a8 := by
  unfold wL_lawOf_332
  refine br_t rfl (sv_most1 e2 e3 e4 (fun g => br_f (by decide) (br_f (Int32.not_le.mpr g) ?_)) (fun g g2 => br_f (by decide) (br_t (Int32.not_lt.mp g) (br_t g2 (sv_372s hp hab hb e2 e3 e4)))) (fun g g2 => br_f (by decide) (br_t (Int32.not_lt.mp g) (br_f g2 (sv_372s hp hab hb e2 e3 e4)))))
  unfold wL_lawOf_355
  exact sv_372s hp hab hb e2 e3 e4
theorem sv_292s {a b : Nat} {z : Int32} (hp : post 1 ()) (hab : a ≤ b) (hb : b ≤ 999) (e2 : a2 1 = nI 1) (e3 : a3 24 = nI a) (e4 : a4 24 = nI b) : wL_lawOf_292 post m0 s0 q (nI a) (nI b) 1 z z kc ks tl ap mj mn dg lo hi il ih mc a1 a2 a3 a4 a5 a6 a7 a8 := by
  unfold wL_lawOf_292
  refine br_t rfl (sv_least1 e2 e3 e4 (fun g => br_f (by decide) (br_f (Int32.not_le.mpr g) ?_)) (fun g g2 => br_f (by decide) (br_t (Int32.not_lt.mp g) (br_t g2 (sv_332s hp hab hb e2 e3 e4)))) (fun g g2 => br_f (by decide) (br_t (Int32.not_lt.mp g) (br_f g2 (sv_332s hp hab hb e2 e3 e4)))))
  unfold wL_lawOf_315
  exact sv_332s hp hab hb e2 e3 e4
theorem sv_271s {a b : Nat} {z : Int32} (hp : post 1 ()) (hab : a ≤ b) (hb : b ≤ 999) (e2 : a2 1 = nI 1) (e3 : a3 24 = nI a) (e4 : a4 24 = nI b) : wL_lawOf_271 post m0 s0 q (nI a) (nI b) 1 z z kc ks tl ap mj mn dg lo hi il ih mc a1 a2 a3 a4 a5 a6 a7 a8 := by
  unfold wL_lawOf_271
  exact br_t rfl (sv_stretches e2 (br_f (by decide) (sv_292s (z := 1) hp hab hb e2 e3 e4)))
/-! .. and: there is none -/
theorem sv_372n {x8 x9 z : Int32} (hp : post 1 ()) (e2 : a2 1 = nI 0) : wL_lawOf_372 post m0 s0 x8 x9 0 z z kc ks tl ap mj mn dg lo hi il ih mc a1 a2 a3 a4 a5 a6 a7 a8 := by
  unfold wL_lawOf_372
  exact br_t rfl (sv_invert0 e2 (fun k tl' ap' mj' mn' dg' lo' hi' il' ih' mc' a1' a2' a3' a4' a5' a6' a7' a8' hk h2 hsum => br_f (by decide) (sv_count (d := 2) (c := k) (by omega) (by omega) h2 (br_t rfl (br_t hsum hp)))))
theorem sv_332n {x8 x9 z : Int32} (hp : post 1 ()) (e2 : a2 1 = nI 0) : wL_lawOf_332 post m0 s0 q x8 x9 0 z z kc ks tl ap mj mn dg lo hi il ih mc a1 a2 a3 a4 a5 a6 a7 a8 := by
  unfold wL_lawOf_332
  refine br_t rfl (sv_most0 e2 (br_t rfl ?_))
  unfold wL_lawOf_355
  exact sv_372n hp e2
theorem sv_292n {x8 x9 z : Int32} (hp : post 1 ()) (e2 : a2 1 = nI 0) : wL_lawOf_292 post m0 s0 q x8 x9 0 z z kc ks tl ap mj mn dg lo hi il ih mc a1 a2 a3 a4 a5 a6 a7 a8 := by
  unfold wL_lawOf_292
  refine br_t rfl (sv_least0 e2 (br_t rfl ?_))
  unfold wL_lawOf_315
  exact sv_332n hp e2
theorem sv_271n {x8 x9 z : Int32} (hp : post 1 ()) (e2 : a2 1 = nI 0) : wL_lawOf_271 post m0 s0 q x8 x9 0 z z kc ks tl ap mj mn dg lo hi il ih mc a1 a2 a3 a4 a5 a6 a7 a8 := by
  unfold wL_lawOf_271
  exact br_t rfl (sv_stretches e2 (br_t rfl (sv_292n (z := 0) hp e2)))
/-- the law's word 'some' -/
def sv_some (x x8 x9 : Int32) : Prop := (x = 0 ∧ ¬ x8 ≤ x9) ∨ (x = 1 ∧ x8 ≤ x9)
theorem sv_244 {t : Nat} {IL IH jM jm jl jh x10 z : Int32} (hp : post 1 ()) (ht : t ≤ 40) (h0 : 0 ≤ IL) (h9 : IH ≤ 999) (hs : sv_ends IL IH) (hx : sv_some x10 IL IH)
    (hit : ∀ post' : Int32 → St2 → Prop, post' 1 (nI t, nI t, jM, jm, 2, jl, jh, IL, IH, 0, a1, a2, a3, a4, a5, a6, a7, a8) → wpX_readItem post' (nI t, 0, mj, mn, dg, lo, hi, il, ih, 0, a1, a2, a3, a4, a5, a6, a7, a8)) :
    wL_lawOf_244 post m0 s0 q IL IH x10 z z kc ks (nI t) ap mj mn dg lo hi il ih mc a1 a2 a3 a4 a5 a6 a7 a8 := by
  unfold wL_lawOf_244
  refine br_t rfl (sv_read ht h0 h9 hs hit (fun c tl' ap' mj' mn' dg' lo' hi' il' ih' mc' a1' a2' a3' a4' a5' a6' a7' a8' e2 p p' => ?_))
  rcases hx with ⟨ex, g⟩ | ⟨ex, g⟩
  · have ec := p' g
    subst ex ec
    exact br_t rfl (sv_271n (z := 0) hp e2)
  · obtain ⟨ec, e3, e4⟩ := p g
    obtain ⟨a, b, ea, eb, hab, hb⟩ := hs g
    subst ex ec ea eb
    refine br_f (by decide) ?_
    have er : bx_sum (fun i => a4' (24 * 1 + i) - a3' (24 * 1 + i) + 1) 1 = nI b - nI a + 1 := by
      show (0 : Int32) + (a4' 24 - a3' 24 + 1) = nI b - nI a + 1
      rw [e3, e4, Int32.zero_add]
    rw [er]
    exact sv_271s hp hab hb e2 e3 e4
theorem sv_nar46 : vp_nar .char 46 = 46 ∧ vp_nar .char 60 = 60 ∧ vp_nar .char 62 = 62 ∧ vp_nar .char 94 = 94 ∧ vp_nar .char 126 = 126 := by
  simp only [vp_nar_char]
  decide
theorem sv_192 {f M m t : Nat} {IL IH x10 : Int32} (hf : t = 0 ∧ 4 ≤ f ∨ t = 1 ∧ f < 4) (hf6 : f < 6) (hM : M < 10) (hm : m < 10)
    (K : wL_lawOf_244 post m0 s0 q IL IH x10 (nI (t + 3)) (nI (t + 3)) kc ks (nI (t + 3)) ap mj mn dg lo hi il ih mc (upd (upd (upd a1 t (nI (48 + M))) (t + 1) 46) (t + 2) (nI (48 + m))) a2 a3 a4 a5 a6 a7 a8) :
    wL_lawOf_192 post m0 s0 q (nI f) (nI M) (nI m) IL IH x10 kc ks (nI t) ap mj mn dg lo hi il ih mc a1 a2 a3 a4 a5 a6 a7 a8 := by
  unfold wL_lawOf_192
  rw [sv_cast M hM, sv_cast m hm]
  refine sv_type (t := t) (by omega) (sv_ch M hM).1 (sv_ch M hM).2 (br_t (nI_le (a := 1) (by omega) (by omega)) ?_)
  refine sv_type (t := t + 1) (by omega) (Or.inr (Or.inl rfl)) sv_nar46.1 (br_t (nI_le (a := 2) (by omega) (by omega)) ?_)
  refine sv_type (t := t + 2) (by omega) (sv_ch m hm).1 (sv_ch m hm).2 ?_
  rcases hf with ⟨et, h⟩ | ⟨et, h⟩
  · subst et
    exact br_t (nI_le (a := 4) h (by omega)) K
  · subst et
    exact br_f (nI_ge (b := 4) h (by omega)) K
/-- the text of a form with a sign ahead of it -/
def sv_tx (c : Int32) (M m : Nat) : Nat → Int32 := upd (upd (upd (upd (fun _ => 0) 0 c) 1 (nI (48 + M))) 2 46) 3 (nI (48 + m))
def sv_ty (M m : Nat) : Nat → Int32 := upd (upd (upd (fun _ => 0) 0 (nI (48 + M))) 1 46) 2 (nI (48 + m))
theorem sv_188 {f M m : Nat} {c IL IH x10 : Int32} (hp : post 1 ()) (hf : f < 4) (hM : M < 10) (hm : m < 10) (hk : sv_known c) (hc : vp_nar .char c = c) (h0 : 0 ≤ IL) (h9 : IH ≤ 999) (hs : sv_ends IL IH) (hx : sv_some x10 IL IH)
    (hit : ∀ post' : Int32 → St2 → Prop, post' 1 (nI 4, nI 4, nI M, nI m, 2, nI (100 * M + 10 * m), nI (100 * M + 10 * m + 9), IL, IH, 0, sv_tx c M m, a2, a3, a4, a5, a6, a7, a8) → wpX_readItem post' (nI 4, 0, mj, mn, dg, lo, hi, il, ih, 0, sv_tx c M m, a2, a3, a4, a5, a6, a7, a8)) :
    wL_lawOf_188 post m0 s0 q (nI f) (nI M) (nI m) IL IH x10 c kc ks 0 ap mj mn dg lo hi il ih mc (fun _ => 0) a2 a3 a4 a5 a6 a7 a8 := by
  unfold wL_lawOf_188
  refine sv_type (t := 0) (by omega) hk hc ?_
  exact sv_192 (t := 1) (Or.inr ⟨rfl, hf⟩) (by omega) hM hm (sv_244 (t := 4) hp (by omega) h0 h9 hs hx hit)
theorem sv_121 {f M m : Nat} {IL IH : Int32} (K : ∀ x10, sv_some x10 IL IH → wL_lawOf_135 post m0 s0 q (nI f) (nI M) (nI m) IL IH x10 kc ks) : wL_lawOf_121 post m0 s0 q (nI f) (nI M) (nI m) IL IH kc ks := by
  unfold wL_lawOf_121
  exact br_c (fun g => K 0 (Or.inl ⟨rfl, Int32.not_le.mpr g⟩)) (fun g => K 1 (Or.inr ⟨rfl, Int32.not_lt.mp g⟩))
end
section
variable {post : Int32 → St0 → Prop} {q : Int32}
/-- the object is made, and nothing is typed yet -/
theorem sv_135 {x4 x5 x6 x8 x9 x10 : Int32} (H0 : 4 ≤ x4 → wL_lawOf_192 post 150 2400 q x4 x5 x6 x8 x9 x10 9 510 0 0 0 0 0 0 0 0 0 0 (fun _ => 0) (fun _ => 0) (fun _ => 0) (fun _ => 0) (fun _ => 0) (fun _ => 0) (fun _ => 0) (fun _ => 0))
    (H1 : ∀ c : Int32, ¬ 4 ≤ x4 → (x4 = 0 ∧ c = 60 ∨ x4 = 1 ∧ c = 62 ∨ x4 = 2 ∧ c = 94 ∨ ¬ x4 = 0 ∧ ¬ x4 = 1 ∧ ¬ x4 = 2 ∧ c = 126) → wL_lawOf_188 post 150 2400 q x4 x5 x6 x8 x9 x10 c 9 510 0 0 0 0 0 0 0 0 0 0 (fun _ => 0) (fun _ => 0) (fun _ => 0) (fun _ => 0) (fun _ => 0) (fun _ => 0) (fun _ => 0) (fun _ => 0)) :
    wL_lawOf_135 post 150 2400 q x4 x5 x6 x8 x9 x10 0 0 := by
  unfold wL_lawOf_135
  refine ⟨by omega, by omega, 8, 492, by omega, by omega, ?_⟩
  unfold wpX_init
  refine ⟨by omega, by omega, by omega, by omega, by omega, by omega, by omega, by omega, by omega, by omega, by omega, by omega, by omega, by omega, by omega, by omega, ?_⟩
  exact br_c (fun g => H0 g) (fun g => br_c (fun g0 => H1 60 g (Or.inl ⟨g0, rfl⟩)) (fun g0 => br_c (fun g1 => H1 62 g (Or.inr (Or.inl ⟨g1, rfl⟩))) (fun g1 => br_c (fun g2 => H1 94 g (Or.inr (Or.inr (Or.inl ⟨g2, rfl⟩)))) (fun g2 => H1 126 g (Or.inr (Or.inr (Or.inr ⟨g0, g1, g2, rfl⟩)))))))
theorem sv_form0 {M m : Nat} {x10 : Int32} (hp : post 1 ()) (hM : M < 10) (hm : m < 10) (hx : sv_some x10 0 (nI (100 * M + 10 * m) - 1)) : wL_lawOf_135 post 150 2400 q (nI 0) (nI M) (nI m) 0 (nI (100 * M + 10 * m) - 1) x10 0 0 := by
  have hs : sv_ends 0 (nI (100 * M + 10 * m) - 1) := by
    intro h
    rcases (show 100 * M + 10 * m = 0 ∨ 1 ≤ 100 * M + 10 * m by omega) with g | g
    · rw [g] at h
      exact absurd h (by decide)
    · exact ⟨0, 100 * M + 10 * m - 1, rfl, sv_pred g, by omega, by omega⟩
  have h9 : nI (100 * M + 10 * m) - 1 ≤ 999 := by
    rcases (show 100 * M + 10 * m = 0 ∨ 1 ≤ 100 * M + 10 * m by omega) with g | g
    · rw [g]
      decide
    · rw [sv_pred g]
      exact nI_le (b := 999) (by omega) (by omega)
  refine sv_135 (fun g => absurd g (by decide)) (fun c g h => ?_)
  have hc : c = 60 := by
    rcases h with h | h | h | h
    · exact h.2
    · exact absurd h.1 (by decide)
    · exact absurd h.1 (by decide)
    · exact absurd rfl h.1
  subst hc
  exact sv_188 hp (by omega) hM hm (Or.inr (Or.inr (Or.inl rfl))) sv_nar46.2.1 (by decide) h9 hs hx (fun post' H => sv_item0 hM hm rfl rfl rfl rfl H)
theorem sv_form1 {M m : Nat} {x10 : Int32} (hp : post 1 ()) (hM : M < 10) (hm : m < 10) (hx : sv_some x10 (nI (100 * M + 10 * m + 10)) 999) : wL_lawOf_135 post 150 2400 q (nI 1) (nI M) (nI m) (nI (100 * M + 10 * m + 10)) 999 x10 0 0 := by
  have hs : sv_ends (nI (100 * M + 10 * m + 10)) 999 := by
    intro h
    have h' : 100 * M + 10 * m + 10 ≤ 999 := (nI_leI (b := 999) (by omega) (by omega)).mp h
    exact ⟨100 * M + 10 * m + 10, 999, rfl, rfl, h', by omega⟩
  refine sv_135 (fun g => absurd g (by decide)) (fun c g h => ?_)
  have hc : c = 62 := by
    rcases h with h | h | h | h
    · exact absurd h.1 (by decide)
    · exact h.2
    · exact absurd h.1 (by decide)
    · exact absurd rfl h.2.1
  subst hc
  exact sv_188 hp (by omega) hM hm (Or.inr (Or.inr (Or.inr (Or.inl rfl)))) sv_nar46.2.2.1 (nI_pos' (by omega)) (by decide) hs hx (fun post' H => sv_item1 hM hm rfl rfl rfl rfl H)
theorem sv_nends {a b : Nat} (hab : a ≤ b) (hb : b ≤ 999) : sv_ends (nI a) (nI b) := fun _ => ⟨a, b, rfl, rfl, hab, hb⟩
theorem sv_form2 {M m e : Nat} {x10 : Int32} (hp : post 1 ()) (hM : M < 10) (hm : m < 10) (he : e = if M = 0 then 10 * m + 9 else 100 * M + 99) (hx : sv_some x10 (nI (100 * M + 10 * m)) (nI e)) : wL_lawOf_135 post 150 2400 q (nI 2) (nI M) (nI m) (nI (100 * M + 10 * m)) (nI e) x10 0 0 := by
  have hb : 100 * M + 10 * m ≤ e ∧ e ≤ 999 := by
    rw [he]
    split <;> omega
  refine sv_135 (fun g => absurd g (by decide)) (fun c g h => ?_)
  have hc : c = 94 := by
    rcases h with h | h | h | h
    · exact absurd h.1 (by decide)
    · exact absurd h.1 (by decide)
    · exact h.2
    · exact absurd rfl h.2.2.1
  subst hc he
  exact sv_188 hp (by omega) hM hm (Or.inr (Or.inr (Or.inr (Or.inr (Or.inl rfl))))) sv_nar46.2.2.2.1 (nI_pos' (by omega)) (nI_le (b := 999) hb.2 (by omega)) (sv_nends hb.1 hb.2) hx (fun post' H => sv_item2 hM hm rfl rfl rfl rfl H)
theorem sv_form3 {M m : Nat} {x10 : Int32} (hp : post 1 ()) (hM : M < 10) (hm : m < 10) (hx : sv_some x10 (nI (100 * M + 10 * m)) (nI (100 * M + 10 * m + 9))) : wL_lawOf_135 post 150 2400 q (nI 3) (nI M) (nI m) (nI (100 * M + 10 * m)) (nI (100 * M + 10 * m + 9)) x10 0 0 := by
  refine sv_135 (fun g => absurd g (by decide)) (fun c g h => ?_)
  have hc : c = 126 := by
    rcases h with h | h | h | h
    · exact absurd h.1 (by decide)
    · exact absurd h.1 (by decide)
    · exact absurd h.1 (by decide)
    · exact h.2.2.2
  subst hc
  exact sv_188 hp (by omega) hM hm (Or.inr (Or.inr (Or.inr (Or.inr (Or.inr rfl))))) sv_nar46.2.2.2.2 (nI_pos' (by omega)) (nI_le (b := 999) (by omega) (by omega)) (sv_nends (by omega) (by omega)) hx (fun post' H => sv_item3 hM hm rfl rfl rfl rfl H)
theorem sv_form4 {f M m : Nat} {x10 : Int32} (hp : post 1 ()) (hf : 4 ≤ f) (hf6 : f < 6) (hM : M < 10) (hm : m < 10) (hx : sv_some x10 (nI (100 * M + 10 * m)) (nI (100 * M + 10 * m + 9))) : wL_lawOf_135 post 150 2400 q (nI f) (nI M) (nI m) (nI (100 * M + 10 * m)) (nI (100 * M + 10 * m + 9)) x10 0 0 := by
  refine sv_135 (fun _ => ?_) (fun c g _ => absurd (nI_le (a := 4) hf (by omega)) g)
  exact sv_192 (t := 0) (Or.inl ⟨rfl, hf⟩) hf6 hM hm (sv_244 (t := 3) hp (by omega) (nI_pos' (by omega)) (nI_le (b := 999) (by omega) (by omega)) (sv_nends (by omega) (by omega)) hx (fun post' H => sv_item4 hM hm rfl rfl rfl H))
theorem sv_lawOf (hp : post 1 ()) (p0 p1 p2 p3 : Int32) : wpL_lawOf post 150 2400 () p0 p1 p2 p3 := by
  obtain ⟨j0, h0, e0⟩ := pk_andE p0 (m := 255) 8 (by decide)
  obtain ⟨j1, h1, e1⟩ := pk_andE p1 (m := 255) 8 (by decide)
  obtain ⟨j2, h2, e2⟩ := pk_andE p2 (m := 255) 8 (by decide)
  have r0 : nI j0 - nI j0 / 6 * 6 = nI (j0 % 6) := pk_rem (d := 6) (by omega) (by omega) (by omega)
  have r1 : nI j1 - nI j1 / 10 * 10 = nI (j1 % 10) := pk_rem (d := 10) (by omega) (by omega) (by omega)
  have r2 : nI j2 - nI j2 / 10 * 10 = nI (j2 % 10) := pk_rem (d := 10) (by omega) (by omega) (by omega)
  have hf : j0 % 6 < 6 := Nat.mod_lt _ (by omega)
  have hM : j1 % 10 < 10 := Nat.mod_lt _ (by omega)
  have hm : j2 % 10 < 10 := Nat.mod_lt _ (by omega)
  unfold wpL_lawOf
  rw [e0, e1, e2]
  refine ⟨by decide, nm_r r0 ⟨by decide, nm_r r1 ⟨by decide, nm_r r2 (nm_r (e' := nI (100 * (j1 % 10) + 10 * (j2 % 10))) (by rw [sv_100, sv_10, nI_add]) ?_)⟩⟩⟩
  generalize j0 % 6 = f at hf
  generalize j1 % 10 = M at hM
  generalize j2 % 10 = m at hm
  rcases (show f = 0 ∨ f = 1 ∨ f = 2 ∨ f = 3 ∨ (4 ≤ f ∧ f < 6) by omega) with g | g | g | g | ⟨g4, g6⟩
  · subst g
    refine br_t (by decide) ?_
    unfold wL_lawOf_68
    exact br_t (by decide) (sv_121 (fun x10 hx => sv_form0 hp hM hm hx))
  · subst g
    refine br_f (by decide) (br_t (by decide) ?_)
    rw [show nI (100 * M + 10 * m) + 10 = nI (100 * M + 10 * m + 10) from nI_add _ 10]
    unfold wL_lawOf_68
    exact br_f (by decide) (br_t (by decide) (sv_121 (fun x10 hx => sv_form1 hp hM hm hx)))
  · subst g
    refine br_f (by decide) (br_f (by decide) ?_)
    unfold wL_lawOf_68
    refine br_f (by decide) (br_f (by decide) (br_t (by decide) (pk_le M 0 (fun z => ?_) (fun z => ?_))))
    · unfold wL_lawOf_116
      rw [sv_9]
      have hM0 : M = 0 := by omega
      exact sv_121 (fun x10 hx => sv_form2 hp hM hm (by rw [if_pos hM0]; omega) hx)
    · rw [sv_100, sv_99]
      exact sv_121 (fun x10 hx => sv_form2 hp hM hm (by rw [if_neg (by omega)]) hx)
  · subst g
    refine br_f (by decide) (br_f (by decide) ?_)
    unfold wL_lawOf_68
    refine br_f (by decide) (br_f (by decide) (br_f (by decide) ?_))
    unfold wL_lawOf_116
    rw [sv_9]
    exact sv_121 (fun x10 hx => sv_form3 hp hM hm hx)
  · have n0 : ¬ nI f = 0 := nI_ne0 (by omega) (by omega)
    have n1 : ¬ nI f = 1 := fun h => absurd ((nI_eq (b := 1) (by omega) (by omega)).mp h) (by omega)
    have n2 : ¬ nI f = 2 := fun h => absurd ((nI_eq (b := 2) (by omega) (by omega)).mp h) (by omega)
    refine br_f n0 (br_f n1 ?_)
    unfold wL_lawOf_68
    refine br_f n0 (br_f n1 (br_f n2 ?_))
    unfold wL_lawOf_116
    rw [sv_9]
    exact sv_121 (fun x10 hx => sv_form4 hp g4 g6 hM hm hx)
end
end
section
theorem sv_cell {post : Int32 → Prop} {L : Nat} {xs : Nat → Int32} (hL : L ≤ 4) (k : Nat) (hk : k < 4) (H : ∀ x, post x) : wpL_cellAt post L xs () (nI k) := by
  unfold wpL_cellAt
  exact pk_le L k (fun _ => H _) (fun z => ⟨pk_in k L z, H _⟩)
theorem i_vc (xs : Nat → Int32) (L : Nat) (hL : L ≤ 4) : wpL_law (fun r => r = 1) L xs := by
  unfold wpL_law
  refine sv_cell hL 0 (by omega) (fun r1 => ?_)
  refine sv_cell hL 1 (by omega) (fun r2 => ?_)
  refine sv_cell hL 2 (by omega) (fun r3 => ?_)
  refine sv_cell hL 3 (by omega) (fun r4 => ?_)
  exact ⟨150, 2400, by omega, by omega, sv_lawOf rfl r1 r2 r3 r4⟩
end
