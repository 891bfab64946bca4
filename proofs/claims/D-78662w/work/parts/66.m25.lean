/-! THE MODEL: its making -/
set_option maxRecDepth 100000
set_option maxHeartbeats 4000000 in
theorem ct_minit {g : GV} (hg : GOk g) {a : Nat} : Ct g (ws_ yX5_init cX5_init 1 none) yX5_init 9 13 3624 [.ref a] [[(a, .inr (4, [.null, .null, .null, iV 0, iV 0, .null, iV 0, iV 0, iV 0, .null, .null, .null, iV 0, jV 0, jV 0, .null, .null, iV 0, .null, .null, .null, iV 0, iV 0, iV 0, .null]))]] (fun v B => ∃ ad M, ad 25 = a ∧ v = none ∧ B = [MB g ad M] ∧ fr [0, 5] (fun _ _ => 0) M ∧ ∃ az, bareL az 1 1 ∧ Found az (M 0)) noX := by
  refine ct_of hg (by decide +kernel) (Nat.le_of_ble_eq_true rfl) (fun F G R9 _ hnm => ?_)
  have G : FxOk g F cX5_init RX5 1 9 := G
  refine wp_loc (L' := [(0, _)]) rfl ?_
  refine wp_aload_n (pc := 0) G dX5_init_0 rfl 0 rfl ?_
  refine wp_objInit (pc := 1) G dX5_init_1 q2050 q155 q156 (by decide) (Nat.le_of_ble_eq_true rfl) ?_
  refine wp_aload_n (pc := 4) G dX5_init_4 rfl 0 rfl ?_
  refine wp_sipush (pc := 5) G dX5_init_5 (by decide) ?_
  refine wp_newl (m := 513) (K' := 12) (N' := 3111) (pc := 8) G q213 dX5_init_8 rfl (by decide) (by decide) (by decide) (fun b0 => ?_)
  refine wp_putF (Bs' := [[(a, .inr (4, [.ref b0, .null, .null, iV 0, iV 0, .null, iV 0, iV 0, iV 0, .null, .null, .null, iV 0, jV 0, jV 0, .null, .null, iV 0, .null, .null, .null, iV 0, iV 0, iV 0, .null]))], [(b0, aJ g 513 (fun _ => 0))]]) (i := 0) (j := 0) (pc := 10) G (hnm.trans rfl) dX5_init_10 fX5_7_4 ft_4_0 (fun q h => by cases h; rfl) ⟨rfl, rfl⟩ rfl rfl (Nat.le_of_ble_eq_true rfl) rfl ?_
  refine wp_aload_n (pc := 13) G dX5_init_13 rfl 0 rfl ?_
  refine wp_sipush (pc := 14) G dX5_init_14 (by decide) ?_
  refine wp_newl (m := 2052) (K' := 11) (N' := 1059) (pc := 17) G q213 dX5_init_17 rfl (by decide) (by decide) (by decide) (fun b1 => ?_)
  refine wp_putF (Bs' := [[(a, .inr (4, [.ref b0, .ref b1, .null, iV 0, iV 0, .null, iV 0, iV 0, iV 0, .null, .null, .null, iV 0, jV 0, jV 0, .null, .null, iV 0, .null, .null, .null, iV 0, iV 0, iV 0, .null]))], [(b0, aJ g 513 (fun _ => 0))], [(b1, aJ g 2052 (fun _ => 0))]]) (i := 0) (j := 0) (pc := 19) G (hnm.trans rfl) dX5_init_19 fX5_13_4 ft_4_1 (fun q h => by cases h; rfl) ⟨rfl, rfl⟩ rfl rfl (Nat.le_of_ble_eq_true rfl) rfl ?_
  refine wp_aload_n (pc := 22) G dX5_init_22 rfl 0 rfl ?_
  refine wp_sipush (pc := 23) G dX5_init_23 (by decide) ?_
  refine wp_newl (m := 513) (K' := 10) (N' := 546) (pc := 26) G q213 dX5_init_26 rfl (by decide) (by decide) (by decide) (fun b2 => ?_)
  refine wp_putF (Bs' := [[(a, .inr (4, [.ref b0, .ref b1, .ref b2, iV 0, iV 0, .null, iV 0, iV 0, iV 0, .null, .null, .null, iV 0, jV 0, jV 0, .null, .null, iV 0, .null, .null, .null, iV 0, iV 0, iV 0, .null]))], [(b0, aJ g 513 (fun _ => 0))], [(b1, aJ g 2052 (fun _ => 0))], [(b2, aJ g 513 (fun _ => 0))]]) (i := 0) (j := 0) (pc := 28) G (hnm.trans rfl) dX5_init_28 fX5_16_4 ft_4_2 (fun q h => by cases h; rfl) ⟨rfl, rfl⟩ rfl rfl (Nat.le_of_ble_eq_true rfl) rfl ?_
  refine wp_aload_n (pc := 31) G dX5_init_31 rfl 0 rfl ?_
  refine wp_bipush (pc := 32) G dX5_init_32 (by decide) ?_
  refine wp_newl (m := 36) (K' := 9) (N' := 510) (pc := 34) G q213 dX5_init_34 rfl (by decide) (by decide) (by decide) (fun b5 => ?_)
  refine wp_putF (Bs' := [[(a, .inr (4, [.ref b0, .ref b1, .ref b2, iV 0, iV 0, .ref b5, iV 0, iV 0, iV 0, .null, .null, .null, iV 0, jV 0, jV 0, .null, .null, iV 0, .null, .null, .null, iV 0, iV 0, iV 0, .null]))], [(b0, aJ g 513 (fun _ => 0))], [(b1, aJ g 2052 (fun _ => 0))], [(b2, aJ g 513 (fun _ => 0))], [(b5, aJ g 36 (fun _ => 0))]]) (i := 0) (j := 0) (pc := 36) G (hnm.trans rfl) dX5_init_36 fX5_19_4 ft_4_5 (fun q h => by cases h; rfl) ⟨rfl, rfl⟩ rfl rfl (Nat.le_of_ble_eq_true rfl) rfl ?_
  refine wp_aload_n (pc := 39) G dX5_init_39 rfl 0 rfl ?_
  refine wp_bipush (pc := 40) G dX5_init_40 (by decide) ?_
  refine wp_newi (m := 72) (K' := 8) (N' := 438) (pc := 42) G q212 dX5_init_42 rfl (by decide) (by decide) (by decide) (fun b9 => ?_)
  refine wp_putF (Bs' := [[(a, .inr (4, [.ref b0, .ref b1, .ref b2, iV 0, iV 0, .ref b5, iV 0, iV 0, iV 0, .ref b9, .null, .null, iV 0, jV 0, jV 0, .null, .null, iV 0, .null, .null, .null, iV 0, iV 0, iV 0, .null]))], [(b0, aJ g 513 (fun _ => 0))], [(b1, aJ g 2052 (fun _ => 0))], [(b2, aJ g 513 (fun _ => 0))], [(b5, aJ g 36 (fun _ => 0))], [(b9, aI g 72 (fun _ => 0))]]) (i := 0) (j := 0) (pc := 44) G (hnm.trans rfl) dX5_init_44 fX5_22_4 ft_4_9 (fun q h => by cases h; rfl) ⟨rfl, rfl⟩ rfl rfl (Nat.le_of_ble_eq_true rfl) rfl ?_
  refine wp_aload_n (pc := 47) G dX5_init_47 rfl 0 rfl ?_
  refine wp_bipush (pc := 48) G dX5_init_48 (by decide) ?_
  refine wp_newl (m := 72) (K' := 7) (N' := 366) (pc := 50) G q213 dX5_init_50 rfl (by decide) (by decide) (by decide) (fun b10 => ?_)
  refine wp_putF (Bs' := [[(a, .inr (4, [.ref b0, .ref b1, .ref b2, iV 0, iV 0, .ref b5, iV 0, iV 0, iV 0, .ref b9, .ref b10, .null, iV 0, jV 0, jV 0, .null, .null, iV 0, .null, .null, .null, iV 0, iV 0, iV 0, .null]))], [(b0, aJ g 513 (fun _ => 0))], [(b1, aJ g 2052 (fun _ => 0))], [(b2, aJ g 513 (fun _ => 0))], [(b5, aJ g 36 (fun _ => 0))], [(b9, aI g 72 (fun _ => 0))], [(b10, aJ g 72 (fun _ => 0))]]) (i := 0) (j := 0) (pc := 52) G (hnm.trans rfl) dX5_init_52 fX5_26_4 ft_4_10 (fun q h => by cases h; rfl) ⟨rfl, rfl⟩ rfl rfl (Nat.le_of_ble_eq_true rfl) rfl ?_
  refine wp_aload_n (pc := 55) G dX5_init_55 rfl 0 rfl ?_
  refine wp_bipush (pc := 56) G dX5_init_56 (by decide) ?_
  refine wp_newi (m := 36) (K' := 6) (N' := 330) (pc := 58) G q212 dX5_init_58 rfl (by decide) (by decide) (by decide) (fun b11 => ?_)
  refine wp_putF (Bs' := [[(a, .inr (4, [.ref b0, .ref b1, .ref b2, iV 0, iV 0, .ref b5, iV 0, iV 0, iV 0, .ref b9, .ref b10, .ref b11, iV 0, jV 0, jV 0, .null, .null, iV 0, .null, .null, .null, iV 0, iV 0, iV 0, .null]))], [(b0, aJ g 513 (fun _ => 0))], [(b1, aJ g 2052 (fun _ => 0))], [(b2, aJ g 513 (fun _ => 0))], [(b5, aJ g 36 (fun _ => 0))], [(b9, aI g 72 (fun _ => 0))], [(b10, aJ g 72 (fun _ => 0))], [(b11, aI g 36 (fun _ => 0))]]) (i := 0) (j := 0) (pc := 60) G (hnm.trans rfl) dX5_init_60 fX5_29_4 ft_4_11 (fun q h => by cases h; rfl) ⟨rfl, rfl⟩ rfl rfl (Nat.le_of_ble_eq_true rfl) rfl ?_
  refine wp_aload_n (pc := 63) G dX5_init_63 rfl 0 rfl ?_
  refine wp_bipush (pc := 64) G dX5_init_64 (by decide) ?_
  refine wp_newl (m := 36) (K' := 5) (N' := 294) (pc := 66) G q213 dX5_init_66 rfl (by decide) (by decide) (by decide) (fun b15 => ?_)
  refine wp_putF (Bs' := [[(a, .inr (4, [.ref b0, .ref b1, .ref b2, iV 0, iV 0, .ref b5, iV 0, iV 0, iV 0, .ref b9, .ref b10, .ref b11, iV 0, jV 0, jV 0, .ref b15, .null, iV 0, .null, .null, .null, iV 0, iV 0, iV 0, .null]))], [(b0, aJ g 513 (fun _ => 0))], [(b1, aJ g 2052 (fun _ => 0))], [(b2, aJ g 513 (fun _ => 0))], [(b5, aJ g 36 (fun _ => 0))], [(b9, aI g 72 (fun _ => 0))], [(b10, aJ g 72 (fun _ => 0))], [(b11, aI g 36 (fun _ => 0))], [(b15, aJ g 36 (fun _ => 0))]]) (i := 0) (j := 0) (pc := 68) G (hnm.trans rfl) dX5_init_68 fX5_32_4 ft_4_15 (fun q h => by cases h; rfl) ⟨rfl, rfl⟩ rfl rfl (Nat.le_of_ble_eq_true rfl) rfl ?_
  refine wp_aload_n (pc := 71) G dX5_init_71 rfl 0 rfl ?_
  refine wp_bipush (pc := 72) G dX5_init_72 (by decide) ?_
  refine wp_newi (m := 36) (K' := 4) (N' := 258) (pc := 74) G q212 dX5_init_74 rfl (by decide) (by decide) (by decide) (fun b16 => ?_)
  refine wp_putF (Bs' := [[(a, .inr (4, [.ref b0, .ref b1, .ref b2, iV 0, iV 0, .ref b5, iV 0, iV 0, iV 0, .ref b9, .ref b10, .ref b11, iV 0, jV 0, jV 0, .ref b15, .ref b16, iV 0, .null, .null, .null, iV 0, iV 0, iV 0, .null]))], [(b0, aJ g 513 (fun _ => 0))], [(b1, aJ g 2052 (fun _ => 0))], [(b2, aJ g 513 (fun _ => 0))], [(b5, aJ g 36 (fun _ => 0))], [(b9, aI g 72 (fun _ => 0))], [(b10, aJ g 72 (fun _ => 0))], [(b11, aI g 36 (fun _ => 0))], [(b15, aJ g 36 (fun _ => 0))], [(b16, aI g 36 (fun _ => 0))]]) (i := 0) (j := 0) (pc := 76) G (hnm.trans rfl) dX5_init_76 fX5_35_4 ft_4_16 (fun q h => by cases h; rfl) ⟨rfl, rfl⟩ rfl rfl (Nat.le_of_ble_eq_true rfl) rfl ?_
  refine wp_aload_n (pc := 79) G dX5_init_79 rfl 0 rfl ?_
  refine wp_bipush (pc := 80) G dX5_init_80 (by decide) ?_
  refine wp_newi (m := 36) (K' := 3) (N' := 222) (pc := 82) G q212 dX5_init_82 rfl (by decide) (by decide) (by decide) (fun b18 => ?_)
  refine wp_putF (Bs' := [[(a, .inr (4, [.ref b0, .ref b1, .ref b2, iV 0, iV 0, .ref b5, iV 0, iV 0, iV 0, .ref b9, .ref b10, .ref b11, iV 0, jV 0, jV 0, .ref b15, .ref b16, iV 0, .ref b18, .null, .null, iV 0, iV 0, iV 0, .null]))], [(b0, aJ g 513 (fun _ => 0))], [(b1, aJ g 2052 (fun _ => 0))], [(b2, aJ g 513 (fun _ => 0))], [(b5, aJ g 36 (fun _ => 0))], [(b9, aI g 72 (fun _ => 0))], [(b10, aJ g 72 (fun _ => 0))], [(b11, aI g 36 (fun _ => 0))], [(b15, aJ g 36 (fun _ => 0))], [(b16, aI g 36 (fun _ => 0))], [(b18, aI g 36 (fun _ => 0))]]) (i := 0) (j := 0) (pc := 84) G (hnm.trans rfl) dX5_init_84 fX5_38_4 ft_4_18 (fun q h => by cases h; rfl) ⟨rfl, rfl⟩ rfl rfl (Nat.le_of_ble_eq_true rfl) rfl ?_
  refine wp_aload_n (pc := 87) G dX5_init_87 rfl 0 rfl ?_
  refine wp_bipush (pc := 88) G dX5_init_88 (by decide) ?_
  refine wp_newl (m := 36) (K' := 2) (N' := 186) (pc := 90) G q213 dX5_init_90 rfl (by decide) (by decide) (by decide) (fun b19 => ?_)
  refine wp_putF (Bs' := [[(a, .inr (4, [.ref b0, .ref b1, .ref b2, iV 0, iV 0, .ref b5, iV 0, iV 0, iV 0, .ref b9, .ref b10, .ref b11, iV 0, jV 0, jV 0, .ref b15, .ref b16, iV 0, .ref b18, .ref b19, .null, iV 0, iV 0, iV 0, .null]))], [(b0, aJ g 513 (fun _ => 0))], [(b1, aJ g 2052 (fun _ => 0))], [(b2, aJ g 513 (fun _ => 0))], [(b5, aJ g 36 (fun _ => 0))], [(b9, aI g 72 (fun _ => 0))], [(b10, aJ g 72 (fun _ => 0))], [(b11, aI g 36 (fun _ => 0))], [(b15, aJ g 36 (fun _ => 0))], [(b16, aI g 36 (fun _ => 0))], [(b18, aI g 36 (fun _ => 0))], [(b19, aJ g 36 (fun _ => 0))]]) (i := 0) (j := 0) (pc := 92) G (hnm.trans rfl) dX5_init_92 fX5_41_4 ft_4_19 (fun q h => by cases h; rfl) ⟨rfl, rfl⟩ rfl rfl (Nat.le_of_ble_eq_true rfl) rfl ?_
  refine wp_aload_n (pc := 95) G dX5_init_95 rfl 0 rfl ?_
  refine wp_sipush (pc := 96) G dX5_init_96 (by decide) ?_
  refine wp_newi (m := 150) (K' := 1) (N' := 36) (pc := 99) G q212 dX5_init_99 rfl (by decide) (by decide) (by decide) (fun b20 => ?_)
  refine wp_putF (Bs' := [[(a, .inr (4, [.ref b0, .ref b1, .ref b2, iV 0, iV 0, .ref b5, iV 0, iV 0, iV 0, .ref b9, .ref b10, .ref b11, iV 0, jV 0, jV 0, .ref b15, .ref b16, iV 0, .ref b18, .ref b19, .ref b20, iV 0, iV 0, iV 0, .null]))], [(b0, aJ g 513 (fun _ => 0))], [(b1, aJ g 2052 (fun _ => 0))], [(b2, aJ g 513 (fun _ => 0))], [(b5, aJ g 36 (fun _ => 0))], [(b9, aI g 72 (fun _ => 0))], [(b10, aJ g 72 (fun _ => 0))], [(b11, aI g 36 (fun _ => 0))], [(b15, aJ g 36 (fun _ => 0))], [(b16, aI g 36 (fun _ => 0))], [(b18, aI g 36 (fun _ => 0))], [(b19, aJ g 36 (fun _ => 0))], [(b20, aI g 150 (fun _ => 0))]]) (i := 0) (j := 0) (pc := 101) G (hnm.trans rfl) dX5_init_101 fX5_44_4 ft_4_20 (fun q h => by cases h; rfl) ⟨rfl, rfl⟩ rfl rfl (Nat.le_of_ble_eq_true rfl) rfl ?_
  refine wp_aload_n (pc := 104) G dX5_init_104 rfl 0 rfl ?_
  refine wp_bipush (pc := 105) G dX5_init_105 (by decide) ?_
  refine wp_newi (m := 36) (K' := 0) (N' := 0) (pc := 107) G q212 dX5_init_107 rfl (by decide) (by decide) (by decide) (fun b24 => ?_)
  refine wp_putF (Bs' := [[(a, .inr (4, [.ref b0, .ref b1, .ref b2, iV 0, iV 0, .ref b5, iV 0, iV 0, iV 0, .ref b9, .ref b10, .ref b11, iV 0, jV 0, jV 0, .ref b15, .ref b16, iV 0, .ref b18, .ref b19, .ref b20, iV 0, iV 0, iV 0, .ref b24]))], [(b0, aJ g 513 (fun _ => 0))], [(b1, aJ g 2052 (fun _ => 0))], [(b2, aJ g 513 (fun _ => 0))], [(b5, aJ g 36 (fun _ => 0))], [(b9, aI g 72 (fun _ => 0))], [(b10, aJ g 72 (fun _ => 0))], [(b11, aI g 36 (fun _ => 0))], [(b15, aJ g 36 (fun _ => 0))], [(b16, aI g 36 (fun _ => 0))], [(b18, aI g 36 (fun _ => 0))], [(b19, aJ g 36 (fun _ => 0))], [(b20, aI g 150 (fun _ => 0))], [(b24, aI g 36 (fun _ => 0))]]) (i := 0) (j := 0) (pc := 109) G (hnm.trans rfl) dX5_init_109 fX5_47_4 ft_4_24 (fun q h => by cases h; rfl) ⟨rfl, rfl⟩ rfl rfl (Nat.le_of_ble_eq_true rfl) rfl ?_
  refine wp_perm (Bs' := [MB g (fun k => if k = 0 then b0 else if k = 1 then b1 else if k = 2 then b2 else if k = 5 then b5 else if k = 9 then b9 else if k = 10 then b10 else if k = 11 then b11 else if k = 15 then b15 else if k = 16 then b16 else if k = 18 then b18 else if k = 19 then b19 else if k = 20 then b20 else if k = 24 then b24 else a) (fun _ _ => 0)]) (List.Perm.of_eq rfl) ?_
  obtain ⟨ad, had⟩ : ∃ ad : Nat → Nat, ad = (fun k => if k = 0 then b0 else if k = 1 then b1 else if k = 2 then b2 else if k = 5 then b5 else if k = 9 then b9 else if k = 10 then b10 else if k = 11 then b11 else if k = 15 then b15 else if k = 16 then b16 else if k = 18 then b18 else if k = 19 then b19 else if k = 20 then b20 else if k = 24 then b24 else a) := ⟨_, rfl⟩
  rw [← had]
  have h25 : ad 25 = a := by rw [had]; rfl
  rw [← h25]
  refine wp_loc (L' := [(0, .ref (ad 25))]) (by rw [h25]) ?_
  refine wp_aload_n (pc := 112) G dX5_init_112 rfl 0 rfl ?_
  refine wp_iconst (pc := 113) G dX5_init_113 ?_
  refine wp_iconst (pc := 114) G dX5_init_114 ?_
  refine wm_callv2 (pc := 115) G dX5_init_115 kX5_50 (ct_begins hg (by omega) (by omega)) (by decide) (by decide) (Nat.le_of_ble_eq_true rfl) (fun M_115 h_115 => ?_)
  exact wp_vret (pc := 118) G R9 dX5_init_118 ⟨ad, M_115, h25, rfl, rfl, h_115.1, h_115.2⟩
