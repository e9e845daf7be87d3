set_option maxRecDepth 100000
theorem cB_L_law_2722 {X : x_Ctx} {M0 : Mem} {L : Nat} {xs : Nat → Int32} {cb sb : Nat} (C : x_CC X 108 3296 yL_law cL_law 7 (some .boolean) []) {k23 : Nat → Nat → Nat → Nat → Int → Mem → Option (Int × Mem)} (hk23 : ∀ (v0 : Nat) (v1 : Nat) (v2 : Nat) (v3 : Nat) (v4 : Int) (M : Mem) (r : Int) (M' : Mem), (va_X v0 L xs (XS X) (XS X).heap ∧ L < 2 ^ 31) → m_kd M v1 = 1 → m_kd M v2 = 5 → m_kd M v3 = 19000 → k23 v0 v1 v2 v3 v4 M = some (r, M') → cb + 14 ≤ (XR X).cells ∧ sb + 3829 ≤ (XR X).slots → x_Z X (cb + 14) (sb + 3829) (x_QF X M0 (.returned (some (vI r))) M' (XR X).cells (XR X).slots) M0 M 7 [(0, .ref v0), (1, .ref v1), (2, .ref v2), (3, .ref v3), (4, vI v4)] 23 []) (v0 : Nat) (v1 : Nat) (v2 : Nat) (v3 : Nat) (v4 : Int) (M : Mem) (r : Int) (M' : Mem) (hv0 : (va_X v0 L xs (XS X) (XS X).heap ∧ L < 2 ^ 31)) (hv1 : m_kd M v1 = 1) (hv2 : m_kd M v2 = 5) (hv3 : m_kd M v3 = 19000) (h : B_L_law_2722 L xs k23 v0 v1 v2 v3 v4 M = some (r, M')) (hR : cb + 14 ≤ (XR X).cells ∧ sb + 3829 ≤ (XR X).slots) : x_Z X (cb + 0) (sb + 0) (x_QF X M0 (.returned (some (vI r))) M' (XR X).cells (XR X).slots) M0 M 7 [(0, .ref v0), (1, .ref v1), (2, .ref v2), (3, .ref v3), (4, vI v4)] 2722 [] := by
  unfold B_L_law_2722 at h
  refine z_aload_n (pc := 2722) C 1 rfl dL_law_2722 ?_
  refine z_aload_n (pc := 2723) C 0 rfl dL_law_2723 ?_
  refine z_iload (pc := 2724) C 4 rfl dL_law_2724 ?_
  refine z_iconst (pc := 2726) C dL_law_2726 ?_
  refine z_iadd (pc := 2727) C dL_law_2727 ?_
  obtain ⟨c754, h⟩ := ifn h
  refine z_sld (pc := 2728) C hv0.1 c754 dL_law_2728 ?_
  refine z_aload_n (pc := 2729) C 3 rfl dL_law_2729 ?_
  obtain ⟨r755, M756, e757, h⟩ := bNs h
  refine cX0_259 (pc := 2730) (st := []) (st1 := [vI r755]) C rfl (rm := { frames := 8, cells := 1, slots := 6, locals := 139 }) (ct_X0_person C.2.1 v1 ((xs (ixn (v4 + 1))).toInt) v3 M _ _ hv1 hv3 e757) ⟨by decide, by decide, Nat.le_trans (show cb + 1 ≤ cb + 14 from by omega) hR.1, Nat.le_trans (show sb + 6 ≤ sb + 3829 from by omega) hR.2⟩ rfl (Nat.le_of_ble_eq_true rfl) dL_law_2730 (c2 := cb + 1) (s2 := sb + 6) rfl rfl (fun x758 => ?_)
  have k759 := x758 _ 1 (by decide) (Or.inl (by decide)) hv1
  have k760 := x758 _ 5 (by decide) (Or.inl (by decide)) hv2
  have k761 := x758 _ 19000 (by decide) (Or.inr (by decide)) hv3
  refine z_istore (pc := 2733) C (lv' := [(0, .ref v0), (1, .ref v1), (2, .ref v2), (3, .ref v3), (4, vI v4), (5, vI r755)]) (by decide) rfl dL_law_2733 ?_
  refine z_aload_n (pc := 2735) C 2 rfl dL_law_2735 ?_
  refine z_aload_n (pc := 2736) C 0 rfl dL_law_2736 ?_
  refine z_iload (pc := 2737) C 4 rfl dL_law_2737 ?_
  refine z_iconst (pc := 2739) C dL_law_2739 ?_
  refine z_iadd (pc := 2740) C dL_law_2740 ?_
  refine z_sld (pc := 2741) C hv0.1 c754 dL_law_2741 ?_
  obtain ⟨r762, M763, e764, h⟩ := bNs h
  refine cX0_261 (pc := 2742) (st := []) (st1 := [vI r762]) C rfl (rm := { frames := 2, cells := 0, slots := 0, locals := 53 }) (ct_X5_person C.2.1 v2 ((xs (ixn (v4 + 1))).toInt) M756 _ _ k760 e764) ⟨by decide, by decide, Nat.le_trans (show cb + 1 ≤ cb + 14 from by omega) hR.1, Nat.le_trans (show sb + 6 ≤ sb + 3829 from by omega) hR.2⟩ (Or.inl k760) rfl (Nat.le_of_ble_eq_true rfl) dL_law_2742 (c2 := cb + 1) (s2 := sb + 6) rfl rfl (fun x765 => ?_)
  have k766 := x765 _ 1 (by decide) (Or.inl (by decide)) k759
  have k767 := x765 _ 5 (by decide) (Or.inl (by decide)) k760
  have k768 := x765 _ 19000 (by decide) (Or.inr (by decide)) k761
  refine z_istore (pc := 2745) C (lv' := [(0, .ref v0), (1, .ref v1), (2, .ref v2), (3, .ref v3), (4, vI v4), (5, vI r755), (6, vI r762)]) (by decide) rfl dL_law_2745 ?_
  refine z_aload_n (pc := 2747) C 2 rfl dL_law_2747 ?_
  refine cX0_151 (pc := 2748) (st := []) (st1 := [vI (d_X5_thrown v2 M763)]) C rfl (rm := { frames := 1, cells := 0, slots := 0, locals := 24 }) (ct_X5_thrown C.2.1 v2 M763 _ k767 rfl) ⟨by decide, by decide, Nat.le_trans (show cb + 1 ≤ cb + 14 from by omega) hR.1, Nat.le_trans (show sb + 6 ≤ sb + 3829 from by omega) hR.2⟩ (Or.inl k767) rfl (Nat.le_of_ble_eq_true rfl) dL_law_2748 (c2 := cb + 1) (s2 := sb + 6) rfl rfl (fun _ => ?_)
  refine z_iload (pc := 2751) C 5 rfl dL_law_2751 ?_
  refine z_ic_eq (pc := 2753) C dL_law_2753 (tgt := 2758) (by decide) (fun c770 => ?_) (fun c770 => ?_)
  · have h := itt c770 h
    refine z_iload (pc := 2758) C 5 rfl dL_law_2758 ?_
    refine z_if_ne (pc := 2760) C dL_law_2760 (tgt := 2775) (by decide) (fun c771 => ?_) (fun c771 => ?_)
    · have h := itf c771 h
      refine z_goto (pc := 2775) C dL_law_2775 (tgt := 3074) (by decide) ?_
      exact z_wide (show cb + 1 ≤ cb + 14 from by omega) (show sb + 6 ≤ sb + 3829 from by omega) <| z_lv [0, 1, 2, 3, 4] rfl <| cB_L_law_3074 C hk23 v0 v1 v2 v3 v4 M763 _ _ hv0 k766 k767 k768 h hR
    · have h := itt c771 h
      refine z_aload_n (pc := 2763) C 3 rfl dL_law_2763 ?_
      refine z_iconst (pc := 2764) C dL_law_2764 ?_
      refine z_law (pc := 2765) C k768 (by decide +kernel) dL_law_2765 ?_
      refine z_iload (pc := 2766) C 6 rfl dL_law_2766 ?_
      refine z_i2l (pc := 2768) C dL_law_2768 ?_
      refine z_lc_eq (pc := 2769) C dL_law_2769 dL_law_2770 (tgt := 2775) (by decide) (fun c772 => ?_) (fun c772 => ?_)
      · have h := itt c772 h
        refine z_goto (pc := 2775) C dL_law_2775 (tgt := 3074) (by decide) ?_
        exact z_wide (show cb + 1 ≤ cb + 14 from by omega) (show sb + 6 ≤ sb + 3829 from by omega) <| z_lv [0, 1, 2, 3, 4] rfl <| cB_L_law_3074 C hk23 v0 v1 v2 v3 v4 M763 _ _ hv0 k766 k767 k768 h hR
      · have h := itf c772 h
        refine z_iconst (pc := 2773) C dL_law_2773 ?_
        cases h
        exact z_zret (pc := 2774) C rfl (Or.inl rfl) (Nat.le_trans (show cb + 1 ≤ cb + 14 from by omega) hR.1) (Nat.le_trans (show sb + 6 ≤ sb + 3829 from by omega) hR.2) dL_law_2774
  · have h := itf c770 h
    refine z_iconst (pc := 2756) C dL_law_2756 ?_
    cases h
    exact z_zret (pc := 2757) C rfl (Or.inl rfl) (Nat.le_trans (show cb + 1 ≤ cb + 14 from by omega) hR.1) (Nat.le_trans (show sb + 6 ≤ sb + 3829 from by omega) hR.2) dL_law_2757
theorem cB_L_law_2778 {X : x_Ctx} {M0 : Mem} {L : Nat} {xs : Nat → Int32} {cb sb : Nat} (C : x_CC X 108 3296 yL_law cL_law 7 (some .boolean) []) {k23 : Nat → Nat → Nat → Nat → Int → Mem → Option (Int × Mem)} (hk23 : ∀ (v0 : Nat) (v1 : Nat) (v2 : Nat) (v3 : Nat) (v4 : Int) (M : Mem) (r : Int) (M' : Mem), (va_X v0 L xs (XS X) (XS X).heap ∧ L < 2 ^ 31) → m_kd M v1 = 1 → m_kd M v2 = 5 → m_kd M v3 = 19000 → k23 v0 v1 v2 v3 v4 M = some (r, M') → cb + 14 ≤ (XR X).cells ∧ sb + 3829 ≤ (XR X).slots → x_Z X (cb + 14) (sb + 3829) (x_QF X M0 (.returned (some (vI r))) M' (XR X).cells (XR X).slots) M0 M 7 [(0, .ref v0), (1, .ref v1), (2, .ref v2), (3, .ref v3), (4, vI v4)] 23 []) (v0 : Nat) (v1 : Nat) (v2 : Nat) (v3 : Nat) (v4 : Int) (M : Mem) (r : Int) (M' : Mem) (hv0 : (va_X v0 L xs (XS X) (XS X).heap ∧ L < 2 ^ 31)) (hv1 : m_kd M v1 = 1) (hv2 : m_kd M v2 = 5) (hv3 : m_kd M v3 = 19000) (h : B_L_law_2778 L xs k23 v0 v1 v2 v3 v4 M = some (r, M')) (hR : cb + 14 ≤ (XR X).cells ∧ sb + 3829 ≤ (XR X).slots) : x_Z X (cb + 0) (sb + 0) (x_QF X M0 (.returned (some (vI r))) M' (XR X).cells (XR X).slots) M0 M 7 [(0, .ref v0), (1, .ref v1), (2, .ref v2), (3, .ref v3), (4, vI v4)] 2778 [] := by
  unfold B_L_law_2778 at h
  refine z_aload_n (pc := 2778) C 1 rfl dL_law_2778 ?_
  refine z_aload_n (pc := 2779) C 0 rfl dL_law_2779 ?_
  refine z_iload (pc := 2780) C 4 rfl dL_law_2780 ?_
  refine z_iconst (pc := 2782) C dL_law_2782 ?_
  refine z_iadd (pc := 2783) C dL_law_2783 ?_
  obtain ⟨c774, h⟩ := ifn h
  refine z_sld (pc := 2784) C hv0.1 c774 dL_law_2784 ?_
  refine z_aload_n (pc := 2785) C 0 rfl dL_law_2785 ?_
  refine z_iload (pc := 2786) C 4 rfl dL_law_2786 ?_
  refine z_iconst (pc := 2788) C dL_law_2788 ?_
  refine z_iadd (pc := 2789) C dL_law_2789 ?_
  obtain ⟨c775, h⟩ := ifn h
  refine z_sld (pc := 2790) C hv0.1 c775 dL_law_2790 ?_
  refine z_aload_n (pc := 2791) C 0 rfl dL_law_2791 ?_
  refine z_iload (pc := 2792) C 4 rfl dL_law_2792 ?_
  refine z_iconst (pc := 2794) C dL_law_2794 ?_
  refine z_iadd (pc := 2795) C dL_law_2795 ?_
  obtain ⟨c776, h⟩ := ifn h
  refine z_sld (pc := 2796) C hv0.1 c776 dL_law_2796 ?_
  refine z_aload_n (pc := 2797) C 3 rfl dL_law_2797 ?_
  obtain ⟨r777, M778, e779, h⟩ := bNs h
  refine cX0_262 (pc := 2798) (st := []) (st1 := [vI r777]) C rfl (rm := { frames := 9, cells := 2, slots := 17, locals := 167 }) (ct_X0_release C.2.1 v1 ((xs (ixn (v4 + 1))).toInt) ((xs (ixn (v4 + 2))).toInt) ((xs (ixn (v4 + 3))).toInt) v3 M _ _ hv1 hv3 e779) ⟨by decide, by decide, Nat.le_trans (show cb + 2 ≤ cb + 14 from by omega) hR.1, Nat.le_trans (show sb + 17 ≤ sb + 3829 from by omega) hR.2⟩ rfl (Nat.le_of_ble_eq_true rfl) dL_law_2798 (c2 := cb + 2) (s2 := sb + 17) rfl rfl (fun x780 => ?_)
  have k781 := x780 _ 1 (by decide) (Or.inl (by decide)) hv1
  have k782 := x780 _ 5 (by decide) (Or.inl (by decide)) hv2
  have k783 := x780 _ 19000 (by decide) (Or.inr (by decide)) hv3
  refine z_istore (pc := 2801) C (lv' := [(0, .ref v0), (1, .ref v1), (2, .ref v2), (3, .ref v3), (4, vI v4), (5, vI r777)]) (by decide) rfl dL_law_2801 ?_
  refine z_aload_n (pc := 2803) C 2 rfl dL_law_2803 ?_
  refine z_aload_n (pc := 2804) C 0 rfl dL_law_2804 ?_
  refine z_iload (pc := 2805) C 4 rfl dL_law_2805 ?_
  refine z_iconst (pc := 2807) C dL_law_2807 ?_
  refine z_iadd (pc := 2808) C dL_law_2808 ?_
  refine z_sld (pc := 2809) C hv0.1 c774 dL_law_2809 ?_
  refine z_aload_n (pc := 2810) C 0 rfl dL_law_2810 ?_
  refine z_iload (pc := 2811) C 4 rfl dL_law_2811 ?_
  refine z_iconst (pc := 2813) C dL_law_2813 ?_
  refine z_iadd (pc := 2814) C dL_law_2814 ?_
  refine z_sld (pc := 2815) C hv0.1 c775 dL_law_2815 ?_
  refine z_aload_n (pc := 2816) C 0 rfl dL_law_2816 ?_
  refine z_iload (pc := 2817) C 4 rfl dL_law_2817 ?_
  refine z_iconst (pc := 2819) C dL_law_2819 ?_
  refine z_iadd (pc := 2820) C dL_law_2820 ?_
  refine z_sld (pc := 2821) C hv0.1 c776 dL_law_2821 ?_
  obtain ⟨r784, M785, e786, h⟩ := bNs h
  refine cX0_264 (pc := 2822) (st := []) (st1 := [vI r784]) C rfl (rm := { frames := 3, cells := 0, slots := 0, locals := 78 }) (ct_X5_release C.2.1 v2 ((xs (ixn (v4 + 1))).toInt) ((xs (ixn (v4 + 2))).toInt) ((xs (ixn (v4 + 3))).toInt) M778 _ _ k782 e786) ⟨by decide, by decide, Nat.le_trans (show cb + 2 ≤ cb + 14 from by omega) hR.1, Nat.le_trans (show sb + 17 ≤ sb + 3829 from by omega) hR.2⟩ (Or.inl k782) rfl (Nat.le_of_ble_eq_true rfl) dL_law_2822 (c2 := cb + 2) (s2 := sb + 17) rfl rfl (fun x787 => ?_)
  have k788 := x787 _ 1 (by decide) (Or.inl (by decide)) k781
  have k789 := x787 _ 5 (by decide) (Or.inl (by decide)) k782
  have k790 := x787 _ 19000 (by decide) (Or.inr (by decide)) k783
  refine z_istore (pc := 2825) C (lv' := [(0, .ref v0), (1, .ref v1), (2, .ref v2), (3, .ref v3), (4, vI v4), (5, vI r777), (6, vI r784)]) (by decide) rfl dL_law_2825 ?_
  refine z_aload_n (pc := 2827) C 2 rfl dL_law_2827 ?_
  refine cX0_151 (pc := 2828) (st := []) (st1 := [vI (d_X5_thrown v2 M785)]) C rfl (rm := { frames := 1, cells := 0, slots := 0, locals := 24 }) (ct_X5_thrown C.2.1 v2 M785 _ k789 rfl) ⟨by decide, by decide, Nat.le_trans (show cb + 2 ≤ cb + 14 from by omega) hR.1, Nat.le_trans (show sb + 17 ≤ sb + 3829 from by omega) hR.2⟩ (Or.inl k789) rfl (Nat.le_of_ble_eq_true rfl) dL_law_2828 (c2 := cb + 2) (s2 := sb + 17) rfl rfl (fun _ => ?_)
  refine z_iload (pc := 2831) C 5 rfl dL_law_2831 ?_
  refine z_ic_eq (pc := 2833) C dL_law_2833 (tgt := 2838) (by decide) (fun c792 => ?_) (fun c792 => ?_)
  · have h := itt c792 h
    refine z_iload (pc := 2838) C 5 rfl dL_law_2838 ?_
    refine z_if_ne (pc := 2840) C dL_law_2840 (tgt := 2855) (by decide) (fun c793 => ?_) (fun c793 => ?_)
    · have h := itf c793 h
      refine z_goto (pc := 2855) C dL_law_2855 (tgt := 3074) (by decide) ?_
      exact z_wide (show cb + 2 ≤ cb + 14 from by omega) (show sb + 17 ≤ sb + 3829 from by omega) <| z_lv [0, 1, 2, 3, 4] rfl <| cB_L_law_3074 C hk23 v0 v1 v2 v3 v4 M785 _ _ hv0 k788 k789 k790 h hR
    · have h := itt c793 h
      refine z_aload_n (pc := 2843) C 3 rfl dL_law_2843 ?_
      refine z_iconst (pc := 2844) C dL_law_2844 ?_
      refine z_law (pc := 2845) C k790 (by decide +kernel) dL_law_2845 ?_
      refine z_iload (pc := 2846) C 6 rfl dL_law_2846 ?_
      refine z_i2l (pc := 2848) C dL_law_2848 ?_
      refine z_lc_eq (pc := 2849) C dL_law_2849 dL_law_2850 (tgt := 2855) (by decide) (fun c794 => ?_) (fun c794 => ?_)
      · have h := itt c794 h
        refine z_goto (pc := 2855) C dL_law_2855 (tgt := 3074) (by decide) ?_
        exact z_wide (show cb + 2 ≤ cb + 14 from by omega) (show sb + 17 ≤ sb + 3829 from by omega) <| z_lv [0, 1, 2, 3, 4] rfl <| cB_L_law_3074 C hk23 v0 v1 v2 v3 v4 M785 _ _ hv0 k788 k789 k790 h hR
      · have h := itf c794 h
        refine z_iconst (pc := 2853) C dL_law_2853 ?_
        cases h
        exact z_zret (pc := 2854) C rfl (Or.inl rfl) (Nat.le_trans (show cb + 2 ≤ cb + 14 from by omega) hR.1) (Nat.le_trans (show sb + 17 ≤ sb + 3829 from by omega) hR.2) dL_law_2854
  · have h := itf c792 h
    refine z_iconst (pc := 2836) C dL_law_2836 ?_
    cases h
    exact z_zret (pc := 2837) C rfl (Or.inl rfl) (Nat.le_trans (show cb + 2 ≤ cb + 14 from by omega) hR.1) (Nat.le_trans (show sb + 17 ≤ sb + 3829 from by omega) hR.2) dL_law_2837
theorem cB_L_law_2858 {X : x_Ctx} {M0 : Mem} {L : Nat} {xs : Nat → Int32} {cb sb : Nat} (C : x_CC X 108 3296 yL_law cL_law 7 (some .boolean) []) {k23 : Nat → Nat → Nat → Nat → Int → Mem → Option (Int × Mem)} (hk23 : ∀ (v0 : Nat) (v1 : Nat) (v2 : Nat) (v3 : Nat) (v4 : Int) (M : Mem) (r : Int) (M' : Mem), (va_X v0 L xs (XS X) (XS X).heap ∧ L < 2 ^ 31) → m_kd M v1 = 1 → m_kd M v2 = 5 → m_kd M v3 = 19000 → k23 v0 v1 v2 v3 v4 M = some (r, M') → cb + 14 ≤ (XR X).cells ∧ sb + 3829 ≤ (XR X).slots → x_Z X (cb + 14) (sb + 3829) (x_QF X M0 (.returned (some (vI r))) M' (XR X).cells (XR X).slots) M0 M 7 [(0, .ref v0), (1, .ref v1), (2, .ref v2), (3, .ref v3), (4, vI v4)] 23 []) (v0 : Nat) (v1 : Nat) (v2 : Nat) (v3 : Nat) (v4 : Int) (M : Mem) (r : Int) (M' : Mem) (hv0 : (va_X v0 L xs (XS X) (XS X).heap ∧ L < 2 ^ 31)) (hv1 : m_kd M v1 = 1) (hv2 : m_kd M v2 = 5) (hv3 : m_kd M v3 = 19000) (h : B_L_law_2858 L xs k23 v0 v1 v2 v3 v4 M = some (r, M')) (hR : cb + 14 ≤ (XR X).cells ∧ sb + 3829 ≤ (XR X).slots) : x_Z X (cb + 0) (sb + 0) (x_QF X M0 (.returned (some (vI r))) M' (XR X).cells (XR X).slots) M0 M 7 [(0, .ref v0), (1, .ref v1), (2, .ref v2), (3, .ref v3), (4, vI v4)] 2858 [] := by
  unfold B_L_law_2858 at h
  refine z_aload_n (pc := 2858) C 1 rfl dL_law_2858 ?_
  refine z_aload_n (pc := 2859) C 0 rfl dL_law_2859 ?_
  refine z_iload (pc := 2860) C 4 rfl dL_law_2860 ?_
  refine z_iconst (pc := 2862) C dL_law_2862 ?_
  refine z_iadd (pc := 2863) C dL_law_2863 ?_
  obtain ⟨c796, h⟩ := ifn h
  refine z_sld (pc := 2864) C hv0.1 c796 dL_law_2864 ?_
  refine z_aload_n (pc := 2865) C 0 rfl dL_law_2865 ?_
  refine z_iload (pc := 2866) C 4 rfl dL_law_2866 ?_
  refine z_iconst (pc := 2868) C dL_law_2868 ?_
  refine z_iadd (pc := 2869) C dL_law_2869 ?_
  obtain ⟨c797, h⟩ := ifn h
  refine z_sld (pc := 2870) C hv0.1 c797 dL_law_2870 ?_
  refine z_aload_n (pc := 2871) C 0 rfl dL_law_2871 ?_
  refine z_iload (pc := 2872) C 4 rfl dL_law_2872 ?_
  refine z_iconst (pc := 2874) C dL_law_2874 ?_
  refine z_iadd (pc := 2875) C dL_law_2875 ?_
  obtain ⟨c798, h⟩ := ifn h
  refine z_sld (pc := 2876) C hv0.1 c798 dL_law_2876 ?_
  refine z_aload_n (pc := 2877) C 0 rfl dL_law_2877 ?_
  refine z_iload (pc := 2878) C 4 rfl dL_law_2878 ?_
  refine z_iconst (pc := 2880) C dL_law_2880 ?_
  refine z_iadd (pc := 2881) C dL_law_2881 ?_
  obtain ⟨c799, h⟩ := ifn h
  refine z_sld (pc := 2882) C hv0.1 c799 dL_law_2882 ?_
  refine z_aload_n (pc := 2883) C 3 rfl dL_law_2883 ?_
  obtain ⟨r800, M801, e802, h⟩ := bNs h
  refine cX0_265 (pc := 2884) (st := []) (st1 := [vI r800]) C rfl (rm := { frames := 9, cells := 1, slots := 6, locals := 171 }) (ct_X0_look C.2.1 v1 ((xs (ixn (v4 + 1))).toInt) ((xs (ixn (v4 + 2))).toInt) ((xs (ixn (v4 + 3))).toInt) ((xs (ixn (v4 + 4))).toInt) v3 M _ _ hv1 hv3 e802) ⟨by decide, by decide, Nat.le_trans (show cb + 1 ≤ cb + 14 from by omega) hR.1, Nat.le_trans (show sb + 6 ≤ sb + 3829 from by omega) hR.2⟩ rfl (Nat.le_of_ble_eq_true rfl) dL_law_2884 (c2 := cb + 1) (s2 := sb + 6) rfl rfl (fun x803 => ?_)
  have k804 := x803 _ 1 (by decide) (Or.inl (by decide)) hv1
  have k805 := x803 _ 5 (by decide) (Or.inl (by decide)) hv2
  have k806 := x803 _ 19000 (by decide) (Or.inr (by decide)) hv3
  refine z_istore (pc := 2887) C (lv' := [(0, .ref v0), (1, .ref v1), (2, .ref v2), (3, .ref v3), (4, vI v4), (5, vI r800)]) (by decide) rfl dL_law_2887 ?_
  refine z_aload_n (pc := 2889) C 2 rfl dL_law_2889 ?_
  refine z_aload_n (pc := 2890) C 0 rfl dL_law_2890 ?_
  refine z_iload (pc := 2891) C 4 rfl dL_law_2891 ?_
  refine z_iconst (pc := 2893) C dL_law_2893 ?_
  refine z_iadd (pc := 2894) C dL_law_2894 ?_
  refine z_sld (pc := 2895) C hv0.1 c796 dL_law_2895 ?_
  refine z_aload_n (pc := 2896) C 0 rfl dL_law_2896 ?_
  refine z_iload (pc := 2897) C 4 rfl dL_law_2897 ?_
  refine z_iconst (pc := 2899) C dL_law_2899 ?_
  refine z_iadd (pc := 2900) C dL_law_2900 ?_
  refine z_sld (pc := 2901) C hv0.1 c797 dL_law_2901 ?_
  refine z_aload_n (pc := 2902) C 0 rfl dL_law_2902 ?_
  refine z_iload (pc := 2903) C 4 rfl dL_law_2903 ?_
  refine z_iconst (pc := 2905) C dL_law_2905 ?_
  refine z_iadd (pc := 2906) C dL_law_2906 ?_
  refine z_sld (pc := 2907) C hv0.1 c798 dL_law_2907 ?_
  refine z_aload_n (pc := 2908) C 0 rfl dL_law_2908 ?_
  refine z_iload (pc := 2909) C 4 rfl dL_law_2909 ?_
  refine z_iconst (pc := 2911) C dL_law_2911 ?_
  refine z_iadd (pc := 2912) C dL_law_2912 ?_
  refine z_sld (pc := 2913) C hv0.1 c799 dL_law_2913 ?_
  obtain ⟨r807, M808, e809, h⟩ := bNs h
  refine cX0_267 (pc := 2914) (st := []) (st1 := [vI r807]) C rfl (rm := { frames := 2, cells := 0, slots := 0, locals := 53 }) (ct_X5_look C.2.1 v2 ((xs (ixn (v4 + 1))).toInt) ((xs (ixn (v4 + 2))).toInt) ((xs (ixn (v4 + 3))).toInt) ((xs (ixn (v4 + 4))).toInt) M801 _ _ k805 e809) ⟨by decide, by decide, Nat.le_trans (show cb + 1 ≤ cb + 14 from by omega) hR.1, Nat.le_trans (show sb + 6 ≤ sb + 3829 from by omega) hR.2⟩ (Or.inl k805) rfl (Nat.le_of_ble_eq_true rfl) dL_law_2914 (c2 := cb + 1) (s2 := sb + 6) rfl rfl (fun x810 => ?_)
  have k811 := x810 _ 1 (by decide) (Or.inl (by decide)) k804
  have k812 := x810 _ 5 (by decide) (Or.inl (by decide)) k805
  have k813 := x810 _ 19000 (by decide) (Or.inr (by decide)) k806
  refine z_istore (pc := 2917) C (lv' := [(0, .ref v0), (1, .ref v1), (2, .ref v2), (3, .ref v3), (4, vI v4), (5, vI r800), (6, vI r807)]) (by decide) rfl dL_law_2917 ?_
  refine z_aload_n (pc := 2919) C 2 rfl dL_law_2919 ?_
  refine cX0_151 (pc := 2920) (st := []) (st1 := [vI (d_X5_thrown v2 M808)]) C rfl (rm := { frames := 1, cells := 0, slots := 0, locals := 24 }) (ct_X5_thrown C.2.1 v2 M808 _ k812 rfl) ⟨by decide, by decide, Nat.le_trans (show cb + 1 ≤ cb + 14 from by omega) hR.1, Nat.le_trans (show sb + 6 ≤ sb + 3829 from by omega) hR.2⟩ (Or.inl k812) rfl (Nat.le_of_ble_eq_true rfl) dL_law_2920 (c2 := cb + 1) (s2 := sb + 6) rfl rfl (fun _ => ?_)
  refine z_iload (pc := 2923) C 5 rfl dL_law_2923 ?_
  refine z_ic_eq (pc := 2925) C dL_law_2925 (tgt := 2930) (by decide) (fun c815 => ?_) (fun c815 => ?_)
  · have h := itt c815 h
    refine z_iload (pc := 2930) C 5 rfl dL_law_2930 ?_
    refine z_if_ne (pc := 2932) C dL_law_2932 (tgt := 2947) (by decide) (fun c816 => ?_) (fun c816 => ?_)
    · have h := itf c816 h
      refine z_goto (pc := 2947) C dL_law_2947 (tgt := 3074) (by decide) ?_
      exact z_wide (show cb + 1 ≤ cb + 14 from by omega) (show sb + 6 ≤ sb + 3829 from by omega) <| z_lv [0, 1, 2, 3, 4] rfl <| cB_L_law_3074 C hk23 v0 v1 v2 v3 v4 M808 _ _ hv0 k811 k812 k813 h hR
    · have h := itt c816 h
      refine z_aload_n (pc := 2935) C 3 rfl dL_law_2935 ?_
      refine z_iconst (pc := 2936) C dL_law_2936 ?_
      refine z_law (pc := 2937) C k813 (by decide +kernel) dL_law_2937 ?_
      refine z_iload (pc := 2938) C 6 rfl dL_law_2938 ?_
      refine z_i2l (pc := 2940) C dL_law_2940 ?_
      refine z_lc_eq (pc := 2941) C dL_law_2941 dL_law_2942 (tgt := 2947) (by decide) (fun c817 => ?_) (fun c817 => ?_)
      · have h := itt c817 h
        refine z_goto (pc := 2947) C dL_law_2947 (tgt := 3074) (by decide) ?_
        exact z_wide (show cb + 1 ≤ cb + 14 from by omega) (show sb + 6 ≤ sb + 3829 from by omega) <| z_lv [0, 1, 2, 3, 4] rfl <| cB_L_law_3074 C hk23 v0 v1 v2 v3 v4 M808 _ _ hv0 k811 k812 k813 h hR
      · have h := itf c817 h
        refine z_iconst (pc := 2945) C dL_law_2945 ?_
        cases h
        exact z_zret (pc := 2946) C rfl (Or.inl rfl) (Nat.le_trans (show cb + 1 ≤ cb + 14 from by omega) hR.1) (Nat.le_trans (show sb + 6 ≤ sb + 3829 from by omega) hR.2) dL_law_2946
  · have h := itf c815 h
    refine z_iconst (pc := 2928) C dL_law_2928 ?_
    cases h
    exact z_zret (pc := 2929) C rfl (Or.inl rfl) (Nat.le_trans (show cb + 1 ≤ cb + 14 from by omega) hR.1) (Nat.le_trans (show sb + 6 ≤ sb + 3829 from by omega) hR.2) dL_law_2929
theorem cB_L_law_2950 {X : x_Ctx} {M0 : Mem} {L : Nat} {xs : Nat → Int32} {cb sb : Nat} (C : x_CC X 108 3296 yL_law cL_law 7 (some .boolean) []) {k23 : Nat → Nat → Nat → Nat → Int → Mem → Option (Int × Mem)} (hk23 : ∀ (v0 : Nat) (v1 : Nat) (v2 : Nat) (v3 : Nat) (v4 : Int) (M : Mem) (r : Int) (M' : Mem), (va_X v0 L xs (XS X) (XS X).heap ∧ L < 2 ^ 31) → m_kd M v1 = 1 → m_kd M v2 = 5 → m_kd M v3 = 19000 → k23 v0 v1 v2 v3 v4 M = some (r, M') → cb + 14 ≤ (XR X).cells ∧ sb + 3829 ≤ (XR X).slots → x_Z X (cb + 14) (sb + 3829) (x_QF X M0 (.returned (some (vI r))) M' (XR X).cells (XR X).slots) M0 M 7 [(0, .ref v0), (1, .ref v1), (2, .ref v2), (3, .ref v3), (4, vI v4)] 23 []) (v0 : Nat) (v1 : Nat) (v2 : Nat) (v3 : Nat) (v4 : Int) (M : Mem) (r : Int) (M' : Mem) (hv0 : (va_X v0 L xs (XS X) (XS X).heap ∧ L < 2 ^ 31)) (hv1 : m_kd M v1 = 1) (hv2 : m_kd M v2 = 5) (hv3 : m_kd M v3 = 19000) (h : B_L_law_2950 L xs k23 v0 v1 v2 v3 v4 M = some (r, M')) (hR : cb + 14 ≤ (XR X).cells ∧ sb + 3829 ≤ (XR X).slots) : x_Z X (cb + 0) (sb + 0) (x_QF X M0 (.returned (some (vI r))) M' (XR X).cells (XR X).slots) M0 M 7 [(0, .ref v0), (1, .ref v1), (2, .ref v2), (3, .ref v3), (4, vI v4)] 2950 [] := by
  unfold B_L_law_2950 at h
  refine z_aload_n (pc := 2950) C 1 rfl dL_law_2950 ?_
  refine z_aload_n (pc := 2951) C 0 rfl dL_law_2951 ?_
  refine z_iload (pc := 2952) C 4 rfl dL_law_2952 ?_
  refine z_iconst (pc := 2954) C dL_law_2954 ?_
  refine z_iadd (pc := 2955) C dL_law_2955 ?_
  obtain ⟨c819, h⟩ := ifn h
  refine z_sld (pc := 2956) C hv0.1 c819 dL_law_2956 ?_
  refine z_aload_n (pc := 2957) C 0 rfl dL_law_2957 ?_
  refine z_iload (pc := 2958) C 4 rfl dL_law_2958 ?_
  refine z_iconst (pc := 2960) C dL_law_2960 ?_
  refine z_iadd (pc := 2961) C dL_law_2961 ?_
  obtain ⟨c820, h⟩ := ifn h
  refine z_sld (pc := 2962) C hv0.1 c820 dL_law_2962 ?_
  refine z_aload_n (pc := 2963) C 3 rfl dL_law_2963 ?_
  obtain ⟨r821, M822, e823, h⟩ := bNs h
  refine cX0_268 (pc := 2964) (st := []) (st1 := [vI r821]) C rfl (rm := { frames := 8, cells := 1, slots := 6, locals := 140 }) (ct_X0_looked C.2.1 v1 ((xs (ixn (v4 + 1))).toInt) ((xs (ixn (v4 + 2))).toInt) v3 M _ _ hv1 hv3 e823) ⟨by decide, by decide, Nat.le_trans (show cb + 1 ≤ cb + 14 from by omega) hR.1, Nat.le_trans (show sb + 6 ≤ sb + 3829 from by omega) hR.2⟩ rfl (Nat.le_of_ble_eq_true rfl) dL_law_2964 (c2 := cb + 1) (s2 := sb + 6) rfl rfl (fun x824 => ?_)
  have k825 := x824 _ 1 (by decide) (Or.inl (by decide)) hv1
  have k826 := x824 _ 5 (by decide) (Or.inl (by decide)) hv2
  have k827 := x824 _ 19000 (by decide) (Or.inr (by decide)) hv3
  refine z_istore (pc := 2967) C (lv' := [(0, .ref v0), (1, .ref v1), (2, .ref v2), (3, .ref v3), (4, vI v4), (5, vI r821)]) (by decide) rfl dL_law_2967 ?_
  refine z_aload_n (pc := 2969) C 2 rfl dL_law_2969 ?_
  refine z_aload_n (pc := 2970) C 0 rfl dL_law_2970 ?_
  refine z_iload (pc := 2971) C 4 rfl dL_law_2971 ?_
  refine z_iconst (pc := 2973) C dL_law_2973 ?_
  refine z_iadd (pc := 2974) C dL_law_2974 ?_
  refine z_sld (pc := 2975) C hv0.1 c819 dL_law_2975 ?_
  refine z_aload_n (pc := 2976) C 0 rfl dL_law_2976 ?_
  refine z_iload (pc := 2977) C 4 rfl dL_law_2977 ?_
  refine z_iconst (pc := 2979) C dL_law_2979 ?_
  refine z_iadd (pc := 2980) C dL_law_2980 ?_
  refine z_sld (pc := 2981) C hv0.1 c820 dL_law_2981 ?_
  obtain ⟨r828, M829, e830, h⟩ := bNs h
  refine cX0_270 (pc := 2982) (st := []) (st1 := [vI r828]) C rfl (rm := { frames := 2, cells := 0, slots := 0, locals := 53 }) (ct_X5_looked C.2.1 v2 ((xs (ixn (v4 + 1))).toInt) ((xs (ixn (v4 + 2))).toInt) M822 _ _ k826 e830) ⟨by decide, by decide, Nat.le_trans (show cb + 1 ≤ cb + 14 from by omega) hR.1, Nat.le_trans (show sb + 6 ≤ sb + 3829 from by omega) hR.2⟩ (Or.inl k826) rfl (Nat.le_of_ble_eq_true rfl) dL_law_2982 (c2 := cb + 1) (s2 := sb + 6) rfl rfl (fun x831 => ?_)
  have k832 := x831 _ 1 (by decide) (Or.inl (by decide)) k825
  have k833 := x831 _ 5 (by decide) (Or.inl (by decide)) k826
  have k834 := x831 _ 19000 (by decide) (Or.inr (by decide)) k827
  refine z_istore (pc := 2985) C (lv' := [(0, .ref v0), (1, .ref v1), (2, .ref v2), (3, .ref v3), (4, vI v4), (5, vI r821), (6, vI r828)]) (by decide) rfl dL_law_2985 ?_
  refine z_aload_n (pc := 2987) C 2 rfl dL_law_2987 ?_
  refine cX0_151 (pc := 2988) (st := []) (st1 := [vI (d_X5_thrown v2 M829)]) C rfl (rm := { frames := 1, cells := 0, slots := 0, locals := 24 }) (ct_X5_thrown C.2.1 v2 M829 _ k833 rfl) ⟨by decide, by decide, Nat.le_trans (show cb + 1 ≤ cb + 14 from by omega) hR.1, Nat.le_trans (show sb + 6 ≤ sb + 3829 from by omega) hR.2⟩ (Or.inl k833) rfl (Nat.le_of_ble_eq_true rfl) dL_law_2988 (c2 := cb + 1) (s2 := sb + 6) rfl rfl (fun _ => ?_)
  refine z_iload (pc := 2991) C 5 rfl dL_law_2991 ?_
  refine z_ic_eq (pc := 2993) C dL_law_2993 (tgt := 2998) (by decide) (fun c836 => ?_) (fun c836 => ?_)
  · have h := itt c836 h
    refine z_iload (pc := 2998) C 5 rfl dL_law_2998 ?_
    refine z_if_ne (pc := 3000) C dL_law_3000 (tgt := 3015) (by decide) (fun c837 => ?_) (fun c837 => ?_)
    · have h := itf c837 h
      refine z_goto (pc := 3015) C dL_law_3015 (tgt := 3074) (by decide) ?_
      exact z_wide (show cb + 1 ≤ cb + 14 from by omega) (show sb + 6 ≤ sb + 3829 from by omega) <| z_lv [0, 1, 2, 3, 4] rfl <| cB_L_law_3074 C hk23 v0 v1 v2 v3 v4 M829 _ _ hv0 k832 k833 k834 h hR
    · have h := itt c837 h
      refine z_aload_n (pc := 3003) C 3 rfl dL_law_3003 ?_
      refine z_iconst (pc := 3004) C dL_law_3004 ?_
      refine z_law (pc := 3005) C k834 (by decide +kernel) dL_law_3005 ?_
      refine z_iload (pc := 3006) C 6 rfl dL_law_3006 ?_
      refine z_i2l (pc := 3008) C dL_law_3008 ?_
      refine z_lc_eq (pc := 3009) C dL_law_3009 dL_law_3010 (tgt := 3015) (by decide) (fun c838 => ?_) (fun c838 => ?_)
      · have h := itt c838 h
        refine z_goto (pc := 3015) C dL_law_3015 (tgt := 3074) (by decide) ?_
        exact z_wide (show cb + 1 ≤ cb + 14 from by omega) (show sb + 6 ≤ sb + 3829 from by omega) <| z_lv [0, 1, 2, 3, 4] rfl <| cB_L_law_3074 C hk23 v0 v1 v2 v3 v4 M829 _ _ hv0 k832 k833 k834 h hR
      · have h := itf c838 h
        refine z_iconst (pc := 3013) C dL_law_3013 ?_
        cases h
        exact z_zret (pc := 3014) C rfl (Or.inl rfl) (Nat.le_trans (show cb + 1 ≤ cb + 14 from by omega) hR.1) (Nat.le_trans (show sb + 6 ≤ sb + 3829 from by omega) hR.2) dL_law_3014
  · have h := itf c836 h
    refine z_iconst (pc := 2996) C dL_law_2996 ?_
    cases h
    exact z_zret (pc := 2997) C rfl (Or.inl rfl) (Nat.le_trans (show cb + 1 ≤ cb + 14 from by omega) hR.1) (Nat.le_trans (show sb + 6 ≤ sb + 3829 from by omega) hR.2) dL_law_2997
theorem cB_L_law_3018 {X : x_Ctx} {M0 : Mem} {L : Nat} {xs : Nat → Int32} {cb sb : Nat} (C : x_CC X 108 3296 yL_law cL_law 7 (some .boolean) []) {k23 : Nat → Nat → Nat → Nat → Int → Mem → Option (Int × Mem)} (hk23 : ∀ (v0 : Nat) (v1 : Nat) (v2 : Nat) (v3 : Nat) (v4 : Int) (M : Mem) (r : Int) (M' : Mem), (va_X v0 L xs (XS X) (XS X).heap ∧ L < 2 ^ 31) → m_kd M v1 = 1 → m_kd M v2 = 5 → m_kd M v3 = 19000 → k23 v0 v1 v2 v3 v4 M = some (r, M') → cb + 14 ≤ (XR X).cells ∧ sb + 3829 ≤ (XR X).slots → x_Z X (cb + 14) (sb + 3829) (x_QF X M0 (.returned (some (vI r))) M' (XR X).cells (XR X).slots) M0 M 7 [(0, .ref v0), (1, .ref v1), (2, .ref v2), (3, .ref v3), (4, vI v4)] 23 []) (v0 : Nat) (v1 : Nat) (v2 : Nat) (v3 : Nat) (v4 : Int) (M : Mem) (r : Int) (M' : Mem) (hv0 : (va_X v0 L xs (XS X) (XS X).heap ∧ L < 2 ^ 31)) (hv1 : m_kd M v1 = 1) (hv2 : m_kd M v2 = 5) (hv3 : m_kd M v3 = 19000) (h : B_L_law_3018 L xs k23 v0 v1 v2 v3 v4 M = some (r, M')) (hR : cb + 14 ≤ (XR X).cells ∧ sb + 3829 ≤ (XR X).slots) : x_Z X (cb + 0) (sb + 0) (x_QF X M0 (.returned (some (vI r))) M' (XR X).cells (XR X).slots) M0 M 7 [(0, .ref v0), (1, .ref v1), (2, .ref v2), (3, .ref v3), (4, vI v4)] 3018 [] := by
  unfold B_L_law_3018 at h
  refine z_aload_n (pc := 3018) C 1 rfl dL_law_3018 ?_
  refine z_aload_n (pc := 3019) C 0 rfl dL_law_3019 ?_
  refine z_iload (pc := 3020) C 4 rfl dL_law_3020 ?_
  refine z_iconst (pc := 3022) C dL_law_3022 ?_
  refine z_iadd (pc := 3023) C dL_law_3023 ?_
  obtain ⟨c840, h⟩ := ifn h
  refine z_sld (pc := 3024) C hv0.1 c840 dL_law_3024 ?_
  refine z_aload_n (pc := 3025) C 3 rfl dL_law_3025 ?_
  obtain ⟨r841, M842, e843, h⟩ := bNs h
  refine cX0_271 (pc := 3026) (st := []) (st1 := [vI r841]) C rfl (rm := { frames := 7, cells := 1, slots := 6, locals := 115 }) (ct_X0_told C.2.1 v1 ((xs (ixn (v4 + 1))).toInt) v3 M _ _ hv1 hv3 e843) ⟨by decide, by decide, Nat.le_trans (show cb + 1 ≤ cb + 14 from by omega) hR.1, Nat.le_trans (show sb + 6 ≤ sb + 3829 from by omega) hR.2⟩ rfl (Nat.le_of_ble_eq_true rfl) dL_law_3026 (c2 := cb + 1) (s2 := sb + 6) rfl rfl (fun x844 => ?_)
  have k845 := x844 _ 1 (by decide) (Or.inl (by decide)) hv1
  have k846 := x844 _ 5 (by decide) (Or.inl (by decide)) hv2
  have k847 := x844 _ 19000 (by decide) (Or.inr (by decide)) hv3
  refine z_istore (pc := 3029) C (lv' := [(0, .ref v0), (1, .ref v1), (2, .ref v2), (3, .ref v3), (4, vI v4), (5, vI r841)]) (by decide) rfl dL_law_3029 ?_
  refine z_aload_n (pc := 3031) C 2 rfl dL_law_3031 ?_
  refine z_aload_n (pc := 3032) C 0 rfl dL_law_3032 ?_
  refine z_iload (pc := 3033) C 4 rfl dL_law_3033 ?_
  refine z_iconst (pc := 3035) C dL_law_3035 ?_
  refine z_iadd (pc := 3036) C dL_law_3036 ?_
  refine z_sld (pc := 3037) C hv0.1 c840 dL_law_3037 ?_
  obtain ⟨r848, M849, e850, h⟩ := bNs h
  refine cX0_273 (pc := 3038) (st := []) (st1 := [vI r848]) C rfl (rm := { frames := 2, cells := 0, slots := 0, locals := 49 }) (ct_X5_told C.2.1 v2 ((xs (ixn (v4 + 1))).toInt) M842 _ _ k846 e850) ⟨by decide, by decide, Nat.le_trans (show cb + 1 ≤ cb + 14 from by omega) hR.1, Nat.le_trans (show sb + 6 ≤ sb + 3829 from by omega) hR.2⟩ (Or.inl k846) rfl (Nat.le_of_ble_eq_true rfl) dL_law_3038 (c2 := cb + 1) (s2 := sb + 6) rfl rfl (fun x851 => ?_)
  have k852 := x851 _ 1 (by decide) (Or.inl (by decide)) k845
  have k853 := x851 _ 5 (by decide) (Or.inl (by decide)) k846
  have k854 := x851 _ 19000 (by decide) (Or.inr (by decide)) k847
  refine z_istore (pc := 3041) C (lv' := [(0, .ref v0), (1, .ref v1), (2, .ref v2), (3, .ref v3), (4, vI v4), (5, vI r841), (6, vI r848)]) (by decide) rfl dL_law_3041 ?_
  refine z_aload_n (pc := 3043) C 2 rfl dL_law_3043 ?_
  refine cX0_151 (pc := 3044) (st := []) (st1 := [vI (d_X5_thrown v2 M849)]) C rfl (rm := { frames := 1, cells := 0, slots := 0, locals := 24 }) (ct_X5_thrown C.2.1 v2 M849 _ k853 rfl) ⟨by decide, by decide, Nat.le_trans (show cb + 1 ≤ cb + 14 from by omega) hR.1, Nat.le_trans (show sb + 6 ≤ sb + 3829 from by omega) hR.2⟩ (Or.inl k853) rfl (Nat.le_of_ble_eq_true rfl) dL_law_3044 (c2 := cb + 1) (s2 := sb + 6) rfl rfl (fun _ => ?_)
  refine z_iload (pc := 3047) C 5 rfl dL_law_3047 ?_
  refine z_ic_eq (pc := 3049) C dL_law_3049 (tgt := 3054) (by decide) (fun c856 => ?_) (fun c856 => ?_)
  · have h := itt c856 h
    refine z_iload (pc := 3054) C 5 rfl dL_law_3054 ?_
    refine z_if_ne (pc := 3056) C dL_law_3056 (tgt := 3071) (by decide) (fun c857 => ?_) (fun c857 => ?_)
    · have h := itf c857 h
      refine z_goto (pc := 3071) C dL_law_3071 (tgt := 3074) (by decide) ?_
      exact z_wide (show cb + 1 ≤ cb + 14 from by omega) (show sb + 6 ≤ sb + 3829 from by omega) <| z_lv [0, 1, 2, 3, 4] rfl <| cB_L_law_3074 C hk23 v0 v1 v2 v3 v4 M849 _ _ hv0 k852 k853 k854 h hR
    · have h := itt c857 h
      refine z_aload_n (pc := 3059) C 3 rfl dL_law_3059 ?_
      refine z_iconst (pc := 3060) C dL_law_3060 ?_
      refine z_law (pc := 3061) C k854 (by decide +kernel) dL_law_3061 ?_
      refine z_iload (pc := 3062) C 6 rfl dL_law_3062 ?_
      refine z_i2l (pc := 3064) C dL_law_3064 ?_
      refine z_lc_eq (pc := 3065) C dL_law_3065 dL_law_3066 (tgt := 3071) (by decide) (fun c858 => ?_) (fun c858 => ?_)
      · have h := itt c858 h
        refine z_goto (pc := 3071) C dL_law_3071 (tgt := 3074) (by decide) ?_
        exact z_wide (show cb + 1 ≤ cb + 14 from by omega) (show sb + 6 ≤ sb + 3829 from by omega) <| z_lv [0, 1, 2, 3, 4] rfl <| cB_L_law_3074 C hk23 v0 v1 v2 v3 v4 M849 _ _ hv0 k852 k853 k854 h hR
      · have h := itf c858 h
        refine z_iconst (pc := 3069) C dL_law_3069 ?_
        cases h
        exact z_zret (pc := 3070) C rfl (Or.inl rfl) (Nat.le_trans (show cb + 1 ≤ cb + 14 from by omega) hR.1) (Nat.le_trans (show sb + 6 ≤ sb + 3829 from by omega) hR.2) dL_law_3070
  · have h := itf c856 h
    refine z_iconst (pc := 3052) C dL_law_3052 ?_
    cases h
    exact z_zret (pc := 3053) C rfl (Or.inl rfl) (Nat.le_trans (show cb + 1 ≤ cb + 14 from by omega) hR.1) (Nat.le_trans (show sb + 6 ≤ sb + 3829 from by omega) hR.2) dL_law_3053
theorem cB_L_law_23 {X : x_Ctx} {M0 : Mem} {L : Nat} {xs : Nat → Int32} {cb sb : Nat} (C : x_CC X 108 3296 yL_law cL_law 7 (some .boolean) []) {k23 : Nat → Nat → Nat → Nat → Int → Mem → Option (Int × Mem)} (hk23 : ∀ (v0 : Nat) (v1 : Nat) (v2 : Nat) (v3 : Nat) (v4 : Int) (M : Mem) (r : Int) (M' : Mem), (va_X v0 L xs (XS X) (XS X).heap ∧ L < 2 ^ 31) → m_kd M v1 = 1 → m_kd M v2 = 5 → m_kd M v3 = 19000 → k23 v0 v1 v2 v3 v4 M = some (r, M') → cb + 14 ≤ (XR X).cells ∧ sb + 3829 ≤ (XR X).slots → x_Z X (cb + 14) (sb + 3829) (x_QF X M0 (.returned (some (vI r))) M' (XR X).cells (XR X).slots) M0 M 7 [(0, .ref v0), (1, .ref v1), (2, .ref v2), (3, .ref v3), (4, vI v4)] 23 []) (v0 : Nat) (v1 : Nat) (v2 : Nat) (v3 : Nat) (v4 : Int) (M : Mem) (r : Int) (M' : Mem) (hv0 : (va_X v0 L xs (XS X) (XS X).heap ∧ L < 2 ^ 31)) (hv1 : m_kd M v1 = 1) (hv2 : m_kd M v2 = 5) (hv3 : m_kd M v3 = 19000) (h : B_L_law_23 L xs k23 v0 v1 v2 v3 v4 M = some (r, M')) (hR : cb + 14 ≤ (XR X).cells ∧ sb + 3829 ≤ (XR X).slots) : x_Z X (cb + 0) (sb + 0) (x_QF X M0 (.returned (some (vI r))) M' (XR X).cells (XR X).slots) M0 M 7 [(0, .ref v0), (1, .ref v1), (2, .ref v2), (3, .ref v3), (4, vI v4)] 23 [] := by
  unfold B_L_law_23 at h
  refine z_iload (pc := 23) C 4 rfl dL_law_23 ?_
  refine z_aload_n (pc := 25) C 0 rfl dL_law_25 ?_
  refine z_slen (pc := 26) C hv0.1 hv0.2 dL_law_26 ?_
  refine z_bipush (pc := 27) C (by decide +kernel) dL_law_27 ?_
  refine z_isub (pc := 29) C dL_law_29 ?_
  refine z_ic_gt (pc := 30) C dL_law_30 (tgt := 3080) (by decide) (fun c21 => ?_) (fun c21 => ?_)
  · have h := itt c21 h
    refine z_iconst (pc := 3080) C dL_law_3080 ?_
    cases h
    exact z_zret (pc := 3081) C rfl (Or.inr rfl) (Nat.le_trans (show cb + 0 ≤ cb + 14 from by omega) hR.1) (Nat.le_trans (show sb + 0 ≤ sb + 3829 from by omega) hR.2) dL_law_3081
  · have h := itf c21 h
    refine z_aload_n (pc := 33) C 0 rfl dL_law_33 ?_
    refine z_iload (pc := 34) C 4 rfl dL_law_34 ?_
    obtain ⟨c22, h⟩ := ifn h
    refine z_sld (pc := 36) C hv0.1 c22 dL_law_36 ?_
    refine z_bipush (pc := 37) C (by decide +kernel) dL_law_37 ?_
    refine z_iand (pc := 39) C dL_law_39 ?_
    by_cases c23 : w32 (a32 ((xs (ixn v4)).toInt) 63) = 0
    · have h := itt c23 h
      refine z_tabI (pc := 40) C (tgt := 208) dL_law_40 c23 (by decide) (by decide) rfl (by decide) ?_
      exact cB_L_law_208 C hk23 v0 v1 v2 v3 v4 M _ _ hv0 hv1 hv2 hv3 h hR
    · have h := itf c23 h
      by_cases c43 : w32 (a32 ((xs (ixn v4)).toInt) 63) = 1
      · have h := itt c43 h
        refine z_tabI (pc := 40) C (tgt := 264) dL_law_40 c43 (by decide) (by decide) rfl (by decide) ?_
        exact cB_L_law_264 C hk23 v0 v1 v2 v3 v4 M _ _ hv0 hv1 hv2 hv3 h hR
      · have h := itf c43 h
        by_cases c62 : w32 (a32 ((xs (ixn v4)).toInt) 63) = 2
        · have h := itt c62 h
          refine z_tabI (pc := 40) C (tgt := 308) dL_law_40 c62 (by decide) (by decide) rfl (by decide) ?_
          exact cB_L_law_308 C hk23 v0 v1 v2 v3 v4 M _ _ hv0 hv1 hv2 hv3 h hR
        · have h := itf c62 h
          by_cases c85 : w32 (a32 ((xs (ixn v4)).toInt) 63) = 3
          · have h := itt c85 h
            refine z_tabI (pc := 40) C (tgt := 400) dL_law_40 c85 (by decide) (by decide) rfl (by decide) ?_
            exact cB_L_law_400 C hk23 v0 v1 v2 v3 v4 M _ _ hv0 hv1 hv2 hv3 h hR
          · have h := itf c85 h
            by_cases c106 : w32 (a32 ((xs (ixn v4)).toInt) 63) = 4
            · have h := itt c106 h
              refine z_tabI (pc := 40) C (tgt := 468) dL_law_40 c106 (by decide) (by decide) rfl (by decide) ?_
              exact cB_L_law_468 C hk23 v0 v1 v2 v3 v4 M _ _ hv0 hv1 hv2 hv3 h hR
            · have h := itf c106 h
              by_cases c129 : w32 (a32 ((xs (ixn v4)).toInt) 63) = 5
              · have h := itt c129 h
                refine z_tabI (pc := 40) C (tgt := 560) dL_law_40 c129 (by decide) (by decide) rfl (by decide) ?_
                exact cB_L_law_560 C hk23 v0 v1 v2 v3 v4 M _ _ hv0 hv1 hv2 hv3 h hR
              · have h := itf c129 h
                by_cases c149 : w32 (a32 ((xs (ixn v4)).toInt) 63) = 6
                · have h := itt c149 h
                  refine z_tabI (pc := 40) C (tgt := 616) dL_law_40 c149 (by decide) (by decide) rfl (by decide) ?_
                  exact cB_L_law_616 C hk23 v0 v1 v2 v3 v4 M _ _ hv0 hv1 hv2 hv3 h hR
                · have h := itf c149 h
                  by_cases c173 : w32 (a32 ((xs (ixn v4)).toInt) 63) = 7
                  · have h := itt c173 h
                    refine z_tabI (pc := 40) C (tgt := 720) dL_law_40 c173 (by decide) (by decide) rfl (by decide) ?_
                    exact cB_L_law_720 C hk23 v0 v1 v2 v3 v4 M _ _ hv0 hv1 hv2 hv3 h hR
                  · have h := itf c173 h
                    by_cases c193 : w32 (a32 ((xs (ixn v4)).toInt) 63) = 8
                    · have h := itt c193 h
                      refine z_tabI (pc := 40) C (tgt := 776) dL_law_40 c193 (by decide) (by decide) rfl (by decide) ?_
                      exact cB_L_law_776 C hk23 v0 v1 v2 v3 v4 M _ _ hv0 hv1 hv2 hv3 h hR
                    · have h := itf c193 h
                      by_cases c212 : w32 (a32 ((xs (ixn v4)).toInt) 63) = 9
                      · have h := itt c212 h
                        refine z_tabI (pc := 40) C (tgt := 820) dL_law_40 c212 (by decide) (by decide) rfl (by decide) ?_
                        exact cB_L_law_820 C hk23 v0 v1 v2 v3 v4 M _ _ hv0 hv1 hv2 hv3 h hR
                      · have h := itf c212 h
                        by_cases c234 : w32 (a32 ((xs (ixn v4)).toInt) 63) = 10
                        · have h := itt c234 h
                          refine z_tabI (pc := 40) C (tgt := 900) dL_law_40 c234 (by decide) (by decide) rfl (by decide) ?_
                          exact cB_L_law_900 C hk23 v0 v1 v2 v3 v4 M _ _ hv0 hv1 hv2 hv3 h hR
                        · have h := itf c234 h
                          by_cases c255 : w32 (a32 ((xs (ixn v4)).toInt) 63) = 11
                          · have h := itt c255 h
                            refine z_tabI (pc := 40) C (tgt := 968) dL_law_40 c255 (by decide) (by decide) rfl (by decide) ?_
                            exact cB_L_law_968 C hk23 v0 v1 v2 v3 v4 M _ _ hv0 hv1 hv2 hv3 h hR
                          · have h := itf c255 h
                            by_cases c275 : w32 (a32 ((xs (ixn v4)).toInt) 63) = 12
                            · have h := itt c275 h
                              refine z_tabI (pc := 40) C (tgt := 1024) dL_law_40 c275 (by decide) (by decide) rfl (by decide) ?_
                              exact cB_L_law_1024 C hk23 v0 v1 v2 v3 v4 M _ _ hv0 hv1 hv2 hv3 h hR
                            · have h := itf c275 h
                              by_cases c296 : w32 (a32 ((xs (ixn v4)).toInt) 63) = 13
                              · have h := itt c296 h
                                refine z_tabI (pc := 40) C (tgt := 1092) dL_law_40 c296 (by decide) (by decide) rfl (by decide) ?_
                                exact cB_L_law_1092 C hk23 v0 v1 v2 v3 v4 M _ _ hv0 hv1 hv2 hv3 h hR
                              · have h := itf c296 h
                                by_cases c316 : w32 (a32 ((xs (ixn v4)).toInt) 63) = 14
                                · have h := itt c316 h
                                  refine z_tabI (pc := 40) C (tgt := 1148) dL_law_40 c316 (by decide) (by decide) rfl (by decide) ?_
                                  exact cB_L_law_1148 C hk23 v0 v1 v2 v3 v4 M _ _ hv0 hv1 hv2 hv3 h hR
                                · have h := itf c316 h
                                  by_cases c343 : w32 (a32 ((xs (ixn v4)).toInt) 63) = 15
                                  · have h := itt c343 h
                                    refine z_tabI (pc := 40) C (tgt := 1244) dL_law_40 c343 (by decide) (by decide) rfl (by decide) ?_
                                    exact cB_L_law_1244 C hk23 v0 v1 v2 v3 v4 M _ _ hv0 hv1 hv2 hv3 h hR
                                  · have h := itf c343 h
                                    by_cases c363 : w32 (a32 ((xs (ixn v4)).toInt) 63) = 16
                                    · have h := itt c363 h
                                      refine z_tabI (pc := 40) C (tgt := 1300) dL_law_40 c363 (by decide) (by decide) rfl (by decide) ?_
                                      exact cB_L_law_1300 C hk23 v0 v1 v2 v3 v4 M _ _ hv0 hv1 hv2 hv3 h hR
                                    · have h := itf c363 h
                                      by_cases c384 : w32 (a32 ((xs (ixn v4)).toInt) 63) = 17
                                      · have h := itt c384 h
                                        refine z_tabI (pc := 40) C (tgt := 1368) dL_law_40 c384 (by decide) (by decide) rfl (by decide) ?_
                                        exact cB_L_law_1368 C hk23 v0 v1 v2 v3 v4 M _ _ hv0 hv1 hv2 hv3 h hR
                                      · have h := itf c384 h
                                        by_cases c405 : w32 (a32 ((xs (ixn v4)).toInt) 63) = 18
                                        · have h := itt c405 h
                                          refine z_tabI (pc := 40) C (tgt := 1436) dL_law_40 c405 (by decide) (by decide) rfl (by decide) ?_
                                          exact cB_L_law_1436 C hk23 v0 v1 v2 v3 v4 M _ _ hv0 hv1 hv2 hv3 h hR
                                        · have h := itf c405 h
                                          by_cases c428 : w32 (a32 ((xs (ixn v4)).toInt) 63) = 19
                                          · have h := itt c428 h
                                            refine z_tabI (pc := 40) C (tgt := 1528) dL_law_40 c428 (by decide) (by decide) rfl (by decide) ?_
                                            exact cB_L_law_1528 C hk23 v0 v1 v2 v3 v4 M _ _ hv0 hv1 hv2 hv3 h hR
                                          · have h := itf c428 h
                                            by_cases c450 : w32 (a32 ((xs (ixn v4)).toInt) 63) = 20
                                            · have h := itt c450 h
                                              refine z_tabI (pc := 40) C (tgt := 1608) dL_law_40 c450 (by decide) (by decide) rfl (by decide) ?_
                                              exact cB_L_law_1608 C hk23 v0 v1 v2 v3 v4 M _ _ hv0 hv1 hv2 hv3 h hR
                                            · have h := itf c450 h
                                              by_cases c471 : w32 (a32 ((xs (ixn v4)).toInt) 63) = 21
                                              · have h := itt c471 h
                                                refine z_tabI (pc := 40) C (tgt := 1676) dL_law_40 c471 (by decide) (by decide) rfl (by decide) ?_
                                                exact cB_L_law_1676 C hk23 v0 v1 v2 v3 v4 M _ _ hv0 hv1 hv2 hv3 h hR
                                              · have h := itf c471 h
                                                by_cases c496 : w32 (a32 ((xs (ixn v4)).toInt) 63) = 22
                                                · have h := itt c496 h
                                                  refine z_tabI (pc := 40) C (tgt := 1760) dL_law_40 c496 (by decide) (by decide) rfl (by decide) ?_
                                                  exact cB_L_law_1760 C hk23 v0 v1 v2 v3 v4 M _ _ hv0 hv1 hv2 hv3 h hR
                                                · have h := itf c496 h
                                                  by_cases c517 : w32 (a32 ((xs (ixn v4)).toInt) 63) = 23
                                                  · have h := itt c517 h
                                                    refine z_tabI (pc := 40) C (tgt := 1828) dL_law_40 c517 (by decide) (by decide) rfl (by decide) ?_
                                                    exact cB_L_law_1828 C hk23 v0 v1 v2 v3 v4 M _ _ hv0 hv1 hv2 hv3 h hR
                                                  · have h := itf c517 h
                                                    by_cases c542 : w32 (a32 ((xs (ixn v4)).toInt) 63) = 24
                                                    · have h := itt c542 h
                                                      refine z_tabI (pc := 40) C (tgt := 1946) dL_law_40 c542 (by decide) (by decide) rfl (by decide) ?_
                                                      exact cB_L_law_1946 C hk23 v0 v1 v2 v3 v4 M _ _ hv0 hv1 hv2 hv3 h hR
                                                    · have h := itf c542 h
                                                      by_cases c563 : w32 (a32 ((xs (ixn v4)).toInt) 63) = 25
                                                      · have h := itt c563 h
                                                        refine z_tabI (pc := 40) C (tgt := 2014) dL_law_40 c563 (by decide) (by decide) rfl (by decide) ?_
                                                        exact cB_L_law_2014 C hk23 v0 v1 v2 v3 v4 M _ _ hv0 hv1 hv2 hv3 h hR
                                                      · have h := itf c563 h
                                                        by_cases c590 : w32 (a32 ((xs (ixn v4)).toInt) 63) = 26
                                                        · have h := itt c590 h
                                                          refine z_tabI (pc := 40) C (tgt := 2110) dL_law_40 c590 (by decide) (by decide) rfl (by decide) ?_
                                                          exact cB_L_law_2110 C hk23 v0 v1 v2 v3 v4 M _ _ hv0 hv1 hv2 hv3 h hR
                                                        · have h := itf c590 h
                                                          by_cases c611 : w32 (a32 ((xs (ixn v4)).toInt) 63) = 27
                                                          · have h := itt c611 h
                                                            refine z_tabI (pc := 40) C (tgt := 2178) dL_law_40 c611 (by decide) (by decide) rfl (by decide) ?_
                                                            exact cB_L_law_2178 C hk23 v0 v1 v2 v3 v4 M _ _ hv0 hv1 hv2 hv3 h hR
                                                          · have h := itf c611 h
                                                            by_cases c635 : w32 (a32 ((xs (ixn v4)).toInt) 63) = 28
                                                            · have h := itt c635 h
                                                              refine z_tabI (pc := 40) C (tgt := 2282) dL_law_40 c635 (by decide) (by decide) rfl (by decide) ?_
                                                              exact cB_L_law_2282 C hk23 v0 v1 v2 v3 v4 M _ _ hv0 hv1 hv2 hv3 h hR
                                                            · have h := itf c635 h
                                                              by_cases c658 : w32 (a32 ((xs (ixn v4)).toInt) 63) = 29
                                                              · have h := itt c658 h
                                                                refine z_tabI (pc := 40) C (tgt := 2374) dL_law_40 c658 (by decide) (by decide) rfl (by decide) ?_
                                                                exact cB_L_law_2374 C hk23 v0 v1 v2 v3 v4 M _ _ hv0 hv1 hv2 hv3 h hR
                                                              · have h := itf c658 h
                                                                by_cases c681 : w32 (a32 ((xs (ixn v4)).toInt) 63) = 30
                                                                · have h := itt c681 h
                                                                  refine z_tabI (pc := 40) C (tgt := 2466) dL_law_40 c681 (by decide) (by decide) rfl (by decide) ?_
                                                                  exact cB_L_law_2466 C hk23 v0 v1 v2 v3 v4 M _ _ hv0 hv1 hv2 hv3 h hR
                                                                · have h := itf c681 h
                                                                  by_cases c703 : w32 (a32 ((xs (ixn v4)).toInt) 63) = 31
                                                                  · have h := itt c703 h
                                                                    refine z_tabI (pc := 40) C (tgt := 2546) dL_law_40 c703 (by decide) (by decide) rfl (by decide) ?_
                                                                    exact cB_L_law_2546 C hk23 v0 v1 v2 v3 v4 M _ _ hv0 hv1 hv2 hv3 h hR
                                                                  · have h := itf c703 h
                                                                    by_cases c732 : w32 (a32 ((xs (ixn v4)).toInt) 63) = 32
                                                                    · have h := itt c732 h
                                                                      refine z_tabI (pc := 40) C (tgt := 2654) dL_law_40 c732 (by decide) (by decide) rfl (by decide) ?_
                                                                      exact cB_L_law_2654 C hk23 v0 v1 v2 v3 v4 M _ _ hv0 hv1 hv2 hv3 h hR
                                                                    · have h := itf c732 h
                                                                      by_cases c753 : w32 (a32 ((xs (ixn v4)).toInt) 63) = 33
                                                                      · have h := itt c753 h
                                                                        refine z_tabI (pc := 40) C (tgt := 2722) dL_law_40 c753 (by decide) (by decide) rfl (by decide) ?_
                                                                        exact cB_L_law_2722 C hk23 v0 v1 v2 v3 v4 M _ _ hv0 hv1 hv2 hv3 h hR
                                                                      · have h := itf c753 h
                                                                        by_cases c773 : w32 (a32 ((xs (ixn v4)).toInt) 63) = 34
                                                                        · have h := itt c773 h
                                                                          refine z_tabI (pc := 40) C (tgt := 2778) dL_law_40 c773 (by decide) (by decide) rfl (by decide) ?_
                                                                          exact cB_L_law_2778 C hk23 v0 v1 v2 v3 v4 M _ _ hv0 hv1 hv2 hv3 h hR
                                                                        · have h := itf c773 h
                                                                          by_cases c795 : w32 (a32 ((xs (ixn v4)).toInt) 63) = 35
                                                                          · have h := itt c795 h
                                                                            refine z_tabI (pc := 40) C (tgt := 2858) dL_law_40 c795 (by decide) (by decide) rfl (by decide) ?_
                                                                            exact cB_L_law_2858 C hk23 v0 v1 v2 v3 v4 M _ _ hv0 hv1 hv2 hv3 h hR
                                                                          · have h := itf c795 h
                                                                            by_cases c818 : w32 (a32 ((xs (ixn v4)).toInt) 63) = 36
                                                                            · have h := itt c818 h
                                                                              refine z_tabI (pc := 40) C (tgt := 2950) dL_law_40 c818 (by decide) (by decide) rfl (by decide) ?_
                                                                              exact cB_L_law_2950 C hk23 v0 v1 v2 v3 v4 M _ _ hv0 hv1 hv2 hv3 h hR
                                                                            · have h := itf c818 h
                                                                              by_cases c839 : w32 (a32 ((xs (ixn v4)).toInt) 63) = 37
                                                                              · have h := itt c839 h
                                                                                refine z_tabI (pc := 40) C (tgt := 3018) dL_law_40 c839 (by decide) (by decide) rfl (by decide) ?_
                                                                                exact cB_L_law_3018 C hk23 v0 v1 v2 v3 v4 M _ _ hv0 hv1 hv2 hv3 h hR
                                                                              · have h := itf c839 h
                                                                                refine z_tabO (pc := 40) C (tgt := 3074) dL_law_40 (by omega) (by decide) ?_
                                                                                exact z_wide (show cb + 0 ≤ cb + 14 from by omega) (show sb + 0 ≤ sb + 3829 from by omega) <| cB_L_law_3074 C hk23 v0 v1 v2 v3 v4 M _ _ hv0 hv1 hv2 hv3 h hR
theorem cL_L_law_23 {X : x_Ctx} {M0 : Mem} {L : Nat} {xs : Nat → Int32} (C : x_CC X 108 3296 yL_law cL_law 7 (some .boolean) []) : ∀ (n cb sb : Nat) (v0 : Nat) (v1 : Nat) (v2 : Nat) (v3 : Nat) (v4 : Int) (M : Mem) (r : Int) (M' : Mem) (hv0 : (va_X v0 L xs (XS X) (XS X).heap ∧ L < 2 ^ 31)) (hv1 : m_kd M v1 = 1) (hv2 : m_kd M v2 = 5) (hv3 : m_kd M v3 = 19000) (h : L_L_law_23 L xs n v0 v1 v2 v3 v4 M = some (r, M')) (hc : cb + 14 * n ≤ (XR X).cells ∧ sb + 3829 * n ≤ (XR X).slots), x_Z X (cb + 0) (sb + 0) (x_QF X M0 (.returned (some (vI r))) M' (XR X).cells (XR X).slots) M0 M 7 [(0, .ref v0), (1, .ref v1), (2, .ref v2), (3, .ref v3), (4, vI v4)] 23 [] := by
  intro n
  induction n with
  | zero => intro cb sb v0 v1 v2 v3 v4 M r M' hv0 hv1 hv2 hv3 h hc; cases h
  | succ n ih =>
    intro cb sb v0 v1 v2 v3 v4 M r M' hv0 hv1 hv2 hv3 h hc
    exact cB_L_law_23 (cb := cb) (sb := sb) C (fun v0 v1 v2 v3 v4 M r M' hv0 hv1 hv2 hv3 h _ => ih (cb + 14) (sb + 3829) v0 v1 v2 v3 v4 M r M' hv0 hv1 hv2 hv3 h ⟨by have := hc.1; omega, by have := hc.2; omega⟩) v0 v1 v2 v3 v4 M r M' hv0 hv1 hv2 hv3 h ⟨by have := hc.1; omega, by have := hc.2; omega⟩
theorem ct_L_law {X : x_Ctx} {L : Nat} {xs : Nat → Int32} (C : x_CC X 108 3296 yL_law cL_law 7 (some .boolean) []) (e5 : XR X = room_1) (v0 : Nat) (hv0 : va_X v0 L xs (XS X) (XS X).heap ∧ L < 2 ^ 31) (M : Mem) (r : Int) (M' : Mem) (h : d_L_law L xs v0 M = some (r, M')) : x_Z X 0 0 (x_QF X M (.returned (some (vI r))) M' (XR X).cells (XR X).slots) M M 7 [(0, .ref v0)] 0 [] := by
  have hR0 : room_1.cells ≤ (XR X).cells ∧ room_1.slots ≤ (XR X).slots := ⟨Nat.le_of_eq (congrArg Room.cells e5).symm, Nat.le_of_eq (congrArg Room.slots e5).symm⟩
  unfold d_L_law at h
  refine nX0_1 (pc := 0) C rfl (a := m_sz M) (Nat.le_trans (show 1 ≤ room_1.cells from by decide) hR0.1) (Nat.le_trans (show 45 ≤ room_1.slots from by decide) hR0.2) dL_law_0 (c2 := 1) (s2 := 45) rfl rfl rfl (fun k1 x2 => ?_)
  refine z_dup (pc := 3) C rfl dL_law_3 ?_
  obtain ⟨r3, M4, e5, h⟩ := bNs h
  refine cX0_141 (pc := 4) (st := [.ref (m_sz M)]) C rfl (rm := { frames := 2, cells := 50, slots := 16156, locals := 49 }) (ct_X1_init C.2.1 (m_sz M) (m_nw M 101) _ _ k1 e5) ⟨by decide, by decide, Nat.le_trans (show 51 ≤ room_1.cells from by decide) hR0.1, Nat.le_trans (show 16201 ≤ room_1.slots from by decide) hR0.2⟩ (Nat.le_of_ble_eq_true rfl) dL_law_4 (c2 := 51) (s2 := 16201) rfl rfl (fun x6 => ?_)
  obtain ⟨c7, h⟩ := ifn h
  refine z_astore_n (pc := 7) C (lv' := [(0, .ref v0), (1, .ref (m_sz M))]) (by decide) rfl dL_law_7 ?_
  refine nX0_5 (pc := 8) C rfl (a := m_sz M4) (Nat.le_trans (show 52 ≤ room_1.cells from by decide) hR0.1) (Nat.le_trans (show 16292 ≤ room_1.slots from by decide) hR0.2) dL_law_8 (c2 := 52) (s2 := 16292) rfl rfl rfl (fun k8 x9 => ?_)
  have k10 := x9.k c7 (by decide)
  refine z_dup (pc := 11) C rfl dL_law_11 ?_
  obtain ⟨r11, M12, e13, h⟩ := bNs h
  refine cX0_144 (pc := 12) (st := [.ref (m_sz M4)]) C rfl (rm := { frames := 1, cells := 62, slots := 41398, locals := 24 }) (ct_X5_init C.2.1 (m_sz M4) (m_nw M4 105) _ _ k8 e13) ⟨by decide, by decide, Nat.le_trans (show 114 ≤ room_1.cells from by decide) hR0.1, Nat.le_trans (show 57690 ≤ room_1.slots from by decide) hR0.2⟩ (Nat.le_of_ble_eq_true rfl) dL_law_12 (c2 := 114) (s2 := 57690) rfl rfl (fun x14 => ?_)
  obtain ⟨c15, h⟩ := ifn h
  have k16 := x14 _ 1 (by decide) (Or.inl (by decide)) k10
  refine z_astore_n (pc := 15) C (lv' := [(0, .ref v0), (1, .ref (m_sz M)), (2, .ref (m_sz M4))]) (by decide) rfl dL_law_15 ?_
  refine z_iconst (pc := 16) C dL_law_16 ?_
  refine z_newo (pc := 17) C (Nat.le_trans (show 115 ≤ room_1.cells from by decide) hR0.1) (Nat.le_trans (show 57691 ≤ room_1.slots from by decide) hR0.2) dL_law_17 (c2 := 115) (s2 := 57691) rfl rfl (a := m_sz M12) rfl (fun k17 x18 => ?_)
  have k19 := x18.k k16 (by decide)
  have k20 := x18.k c15 (by decide)
  refine z_astore_n (pc := 19) C (lv' := [(0, .ref v0), (1, .ref (m_sz M)), (2, .ref (m_sz M4)), (3, .ref (m_sz M12))]) (by decide) rfl dL_law_19 ?_
  refine z_iconst (pc := 20) C dL_law_20 ?_
  refine z_istore (pc := 21) C (lv' := [(0, .ref v0), (1, .ref (m_sz M)), (2, .ref (m_sz M4)), (3, .ref (m_sz M12)), (4, vI 0)]) (by decide) rfl dL_law_21 ?_
  exact cL_L_law_23 C 65 115 57691 v0 (m_sz M) (m_sz M4) (m_sz M12) 0 (m_nw M12 19000) _ _ hv0 k19 k20 k17 h ⟨Nat.le_trans (show 115 + 14 * 65 ≤ room_1.cells from by decide) hR0.1, Nat.le_trans (show 57691 + 3829 * 65 ≤ room_1.slots from by decide) hR0.2⟩
