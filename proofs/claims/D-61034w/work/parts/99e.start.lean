/-! the first states -/
set_option maxRecDepth 100000
theorem dk_init_l292 {Q : Int32 × dS → Prop} {x0 : Int32} {σ : dS} : wq (lp dk_init_st (292, [x0], σ)) Q ↔ wq (dk_init_b292 x0 σ) (ks dk_init_st Q) := by
  have e : dk_init_st (292, [x0], σ) = dk_init_b292 x0 σ := by unfold dk_init_st; generalize dk_init_b292 = F0; generalize dk_init_b313 = F1; exact if_pos rfl
  rw [wq_lp, e]
theorem dk_init_l313 {Q : Int32 × dS → Prop} {x0 : Int32} {σ : dS} : wq (lp dk_init_st (313, [x0], σ)) Q ↔ wq (dk_init_b313 x0 σ) (ks dk_init_st Q) := by
  have e : dk_init_st (313, [x0], σ) = dk_init_b313 x0 σ := by unfold dk_init_st; generalize dk_init_b292 = F0; generalize dk_init_b313 = F1; exact (if_neg (fun h => (by decide : ¬ (313 : Nat) = 292) h)).trans (if_pos rfl)
  rw [wq_lp, e]
theorem dk_init_lp313 {σ0 : dS} : ∀ (f k : Nat) (σ : dS), k + f = 6 → sm [0, 28] σ0 σ → (∀ j, j < 24 → σ 0 j = -1) → (∀ t, t < k → σ 28 t = -1) → wq (lp dk_init_st (313, [nI k], σ)) (fun r => sm [0, 28] σ0 r.2 ∧ (∀ j, j < 24 → r.2 0 j = -1) ∧ (∀ t, t < 6 → r.2 28 t = -1)) := by
  intro f
  induction f with
  | zero =>
    intro k σ hk2 hs h1 h2
    rw [dk_init_l313]
    unfold dk_init_b313
    rw [wi_t (by rw [l_6, z_le (by omega) (by omega)]; omega), wq_some, ks_r]
    exact ⟨hs, h1, fun t ht6 => h2 t (by omega)⟩
  | succ f ih =>
    intro k σ hk2 hs h1 h2
    rw [dk_init_l313]
    unfold dk_init_b313
    rw [wi_f (by rw [l_6, z_le (by omega) (by omega)]; omega), wc_n (by omega) (by omega), z_cl (by omega), z_nbm1, wq_some, ks_l, n1_add]
    refine ih (k + 1) _ (by omega) (sm_up (by decide) hs) (fun j hj => ?_) (fun t ht6 => ?_)
    · rw [up2_n (show (0 : Nat) ≠ 28 by decide)]; exact h1 j hj
    · rw [up2_s]
      by_cases e : t = k
      · rw [e, u_e]
      · rw [u_n e]; exact h2 t (by omega)
theorem dk_init_lp292 {σ0 : dS} : ∀ (f k : Nat) (σ : dS), k + f = 24 → sm [0, 28] σ0 σ → (∀ j, j < k → σ 0 j = -1) → wq (lp dk_init_st (292, [nI k], σ)) (fun r => sm [0, 28] σ0 r.2 ∧ (∀ j, j < 24 → r.2 0 j = -1) ∧ (∀ t, t < 6 → r.2 28 t = -1)) := by
  intro f
  induction f with
  | zero =>
    intro k σ hk2 hs h1
    rw [dk_init_l292]
    unfold dk_init_b292
    rw [wi_t (by rw [l_24, z_le (by omega) (by omega)]; omega), wq_some, ks_l]
    have := dk_init_lp313 (σ0 := σ0) 6 0 σ (by omega) hs (fun j hj => h1 j (by omega)) (fun t ht6 => absurd ht6 (by omega))
    rw [nI_0] at this; exact this
  | succ f ih =>
    intro k σ hk2 hs h1
    rw [dk_init_l292]
    unfold dk_init_b292
    rw [wi_f (by rw [l_24, z_le (by omega) (by omega)]; omega), wc_n (by omega) (by omega), z_cl (by omega), z_nbm1, wq_some, ks_l, n1_add]
    refine ih (k + 1) _ (by omega) (sm_up (by decide) hs) (fun j hj => ?_)
    rw [up2_s]
    by_cases e : j = k
    · rw [e, u_e]
    · rw [u_n e]; exact h1 j (by omega)
theorem dk_init_sp : wq (dk_init dk_s0) (fun r => sm [0, 28] dk_s0 r.2 ∧ (∀ j, j < 24 → r.2 0 j = -1) ∧ (∀ t, t < 6 → r.2 28 t = -1)) := by
  unfold dk_init
  rw [wq_lpB]
  unfold dk_init_b290
  rw [wq_some, ks_l]
  have := dk_init_lp292 (σ0 := dk_s0) 24 0 dk_s0 (by omega) sm_rf (fun j hj => absurd hj (by omega))
  rw [nI_0] at this; exact this
theorem Rel_start {r : Int32 × dS} (h : dk_init dk_s0 = some r) : Rel r.2 md_s0 := by
  obtain ⟨hs, h0, h28⟩ := wq_eq dk_init_sp h
  have z : ∀ k, k ∉ [0, 28] → k ≠ 5 → ∀ j, r.2 k j = 0 := fun k hk2 h5 j => by
    rw [hs k hk2]; exact if_neg h5
  have hW : WT 0 (fun _ => 0) (fun _ => 0) := ⟨⟨by omega, fun i hi => absurd hi (by omega), fun i j hi => absurd hi (by omega)⟩, by unfold wfT; refine ⟨?_, ?_⟩ <;> (intros; omega)⟩
  have hD : DT 0 (fun _ => 0) (fun _ => 0) (fun _ => 0) (fun _ => 0) r.2 := ⟨by rw [z 6 (by decide) (by decide), nI_0], by rw [hs 5 (by decide)]; rfl, ⟨fun i hi => absurd hi (by omega), fun i _ hi => absurd hi (by omega), fun i _ hi => absurd hi (by omega)⟩, fun g => absurd g (by omega), fun i hi => absurd hi (by omega), fun k hk2 _ => h0 k hk2⟩
  have hM : MT 0 (fun _ => 0) (fun _ => 0) (fun _ => 0) (fun _ => 0) md_s0 := ⟨nI_0.symm, fun i hi => absurd hi (by omega)⟩
  have hX : XR (fun _ => []) r.2 md_s0 := ⟨fun s hs9 => ⟨Nat.zero_le _, fun t ht9 => (by cases ht9), (by rw [z 21 (by decide) (by decide)]; exact nI_0.symm), nI_0.symm, fun i t q g => (by rw [List.drop_nil] at g; cases g), fun i t q g => (by rw [List.drop_nil] at g; cases g)⟩, fun s _ g => absurd rfl g⟩
  exact ⟨0, fun _ => 0, fun _ => 0, fun _ => 0, fun _ => 0, fun _ => [], fun _ => none, ⟨DK_of hW hD (Or.inl (z 15 (by decide) (by decide) 0)) hX (fun s _ => Or.inl (z 25 (by decide) (by decide) s)), MK_of hW hM (fun i hi => absurd hi (by omega)) hX (fun s _ => Or.inl rfl)⟩, hX, fun t ht6 => ⟨fun _ => ⟨h28 t ht6, rfl⟩, fun m p o w g => (by cases g)⟩, Or.inl (z 33 (by decide) (by decide) 0), 0, by omega, by rw [z 38 (by decide) (by decide), nI_0], nI_0.symm, fun i hi => absurd hi (by omega)⟩
