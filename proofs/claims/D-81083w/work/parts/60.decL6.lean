set_option maxRecDepth 100000
theorem dL_law_2671 : decode cL_law 2671 = .ok (.istore 5, 2) := by decide +kernel
theorem dL_law_2673 : decode cL_law 2673 = .ok (.aload_n 2, 1) := by decide +kernel
theorem dL_law_2674 : decode cL_law 2674 = .ok (.aload_n 0, 1) := by decide +kernel
theorem dL_law_2675 : decode cL_law 2675 = .ok (.iload 4, 2) := by decide +kernel
theorem dL_law_2677 : decode cL_law 2677 = .ok (.iconst 1, 1) := by decide +kernel
theorem dL_law_2678 : decode cL_law 2678 = .ok (.iadd, 1) := by decide +kernel
theorem dL_law_2679 : decode cL_law 2679 = .ok (.iaload, 1) := by decide +kernel
theorem dL_law_2680 : decode cL_law 2680 = .ok (.aload_n 0, 1) := by decide +kernel
theorem dL_law_2681 : decode cL_law 2681 = .ok (.iload 4, 2) := by decide +kernel
theorem dL_law_2683 : decode cL_law 2683 = .ok (.iconst 2, 1) := by decide +kernel
theorem dL_law_2684 : decode cL_law 2684 = .ok (.iadd, 1) := by decide +kernel
theorem dL_law_2685 : decode cL_law 2685 = .ok (.iaload, 1) := by decide +kernel
theorem dL_law_2686 : decode cL_law 2686 = .ok (.invokevirtual 258, 3) := by decide +kernel
theorem dL_law_2689 : decode cL_law 2689 = .ok (.istore 6, 2) := by decide +kernel
theorem dL_law_2691 : decode cL_law 2691 = .ok (.aload_n 2, 1) := by decide +kernel
theorem dL_law_2692 : decode cL_law 2692 = .ok (.invokevirtual 151, 3) := by decide +kernel
theorem dL_law_2695 : decode cL_law 2695 = .ok (.iload 5, 2) := by decide +kernel
theorem dL_law_2697 : decode cL_law 2697 = .ok (.if_icmp .eq 5, 3) := by decide +kernel
theorem dL_law_2700 : decode cL_law 2700 = .ok (.iconst 0, 1) := by decide +kernel
theorem dL_law_2701 : decode cL_law 2701 = .ok (.ireturn, 1) := by decide +kernel
theorem dL_law_2702 : decode cL_law 2702 = .ok (.iload 5, 2) := by decide +kernel
theorem dL_law_2704 : decode cL_law 2704 = .ok (.ifCond .ne 15, 3) := by decide +kernel
theorem dL_law_2707 : decode cL_law 2707 = .ok (.aload_n 3, 1) := by decide +kernel
theorem dL_law_2708 : decode cL_law 2708 = .ok (.iconst 0, 1) := by decide +kernel
theorem dL_law_2709 : decode cL_law 2709 = .ok (.laload, 1) := by decide +kernel
theorem dL_law_2710 : decode cL_law 2710 = .ok (.iload 6, 2) := by decide +kernel
theorem dL_law_2712 : decode cL_law 2712 = .ok (.i2l, 1) := by decide +kernel
theorem dL_law_2713 : decode cL_law 2713 = .ok (.lcmp, 1) := by decide +kernel
theorem dL_law_2714 : decode cL_law 2714 = .ok (.ifCond .eq 5, 3) := by decide +kernel
theorem dL_law_2717 : decode cL_law 2717 = .ok (.iconst 0, 1) := by decide +kernel
theorem dL_law_2718 : decode cL_law 2718 = .ok (.ireturn, 1) := by decide +kernel
theorem dL_law_2719 : decode cL_law 2719 = .ok (.goto 355, 3) := by decide +kernel
theorem dL_law_2722 : decode cL_law 2722 = .ok (.aload_n 1, 1) := by decide +kernel
theorem dL_law_2723 : decode cL_law 2723 = .ok (.aload_n 0, 1) := by decide +kernel
theorem dL_law_2724 : decode cL_law 2724 = .ok (.iload 4, 2) := by decide +kernel
theorem dL_law_2726 : decode cL_law 2726 = .ok (.iconst 1, 1) := by decide +kernel
theorem dL_law_2727 : decode cL_law 2727 = .ok (.iadd, 1) := by decide +kernel
theorem dL_law_2728 : decode cL_law 2728 = .ok (.iaload, 1) := by decide +kernel
theorem dL_law_2729 : decode cL_law 2729 = .ok (.aload_n 3, 1) := by decide +kernel
theorem dL_law_2730 : decode cL_law 2730 = .ok (.invokestatic 259, 3) := by decide +kernel
theorem dL_law_2733 : decode cL_law 2733 = .ok (.istore 5, 2) := by decide +kernel
theorem dL_law_2735 : decode cL_law 2735 = .ok (.aload_n 2, 1) := by decide +kernel
theorem dL_law_2736 : decode cL_law 2736 = .ok (.aload_n 0, 1) := by decide +kernel
theorem dL_law_2737 : decode cL_law 2737 = .ok (.iload 4, 2) := by decide +kernel
theorem dL_law_2739 : decode cL_law 2739 = .ok (.iconst 1, 1) := by decide +kernel
theorem dL_law_2740 : decode cL_law 2740 = .ok (.iadd, 1) := by decide +kernel
theorem dL_law_2741 : decode cL_law 2741 = .ok (.iaload, 1) := by decide +kernel
theorem dL_law_2742 : decode cL_law 2742 = .ok (.invokevirtual 261, 3) := by decide +kernel
theorem dL_law_2745 : decode cL_law 2745 = .ok (.istore 6, 2) := by decide +kernel
theorem dL_law_2747 : decode cL_law 2747 = .ok (.aload_n 2, 1) := by decide +kernel
theorem dL_law_2748 : decode cL_law 2748 = .ok (.invokevirtual 151, 3) := by decide +kernel
theorem dL_law_2751 : decode cL_law 2751 = .ok (.iload 5, 2) := by decide +kernel
theorem dL_law_2753 : decode cL_law 2753 = .ok (.if_icmp .eq 5, 3) := by decide +kernel
theorem dL_law_2756 : decode cL_law 2756 = .ok (.iconst 0, 1) := by decide +kernel
theorem dL_law_2757 : decode cL_law 2757 = .ok (.ireturn, 1) := by decide +kernel
theorem dL_law_2758 : decode cL_law 2758 = .ok (.iload 5, 2) := by decide +kernel
theorem dL_law_2760 : decode cL_law 2760 = .ok (.ifCond .ne 15, 3) := by decide +kernel
theorem dL_law_2763 : decode cL_law 2763 = .ok (.aload_n 3, 1) := by decide +kernel
theorem dL_law_2764 : decode cL_law 2764 = .ok (.iconst 0, 1) := by decide +kernel
theorem dL_law_2765 : decode cL_law 2765 = .ok (.laload, 1) := by decide +kernel
theorem dL_law_2766 : decode cL_law 2766 = .ok (.iload 6, 2) := by decide +kernel
theorem dL_law_2768 : decode cL_law 2768 = .ok (.i2l, 1) := by decide +kernel
theorem dL_law_2769 : decode cL_law 2769 = .ok (.lcmp, 1) := by decide +kernel
theorem dL_law_2770 : decode cL_law 2770 = .ok (.ifCond .eq 5, 3) := by decide +kernel
theorem dL_law_2773 : decode cL_law 2773 = .ok (.iconst 0, 1) := by decide +kernel
theorem dL_law_2774 : decode cL_law 2774 = .ok (.ireturn, 1) := by decide +kernel
theorem dL_law_2775 : decode cL_law 2775 = .ok (.goto 299, 3) := by decide +kernel
theorem dL_law_2778 : decode cL_law 2778 = .ok (.aload_n 1, 1) := by decide +kernel
theorem dL_law_2779 : decode cL_law 2779 = .ok (.aload_n 0, 1) := by decide +kernel
theorem dL_law_2780 : decode cL_law 2780 = .ok (.iload 4, 2) := by decide +kernel
theorem dL_law_2782 : decode cL_law 2782 = .ok (.iconst 1, 1) := by decide +kernel
theorem dL_law_2783 : decode cL_law 2783 = .ok (.iadd, 1) := by decide +kernel
theorem dL_law_2784 : decode cL_law 2784 = .ok (.iaload, 1) := by decide +kernel
theorem dL_law_2785 : decode cL_law 2785 = .ok (.aload_n 0, 1) := by decide +kernel
theorem dL_law_2786 : decode cL_law 2786 = .ok (.iload 4, 2) := by decide +kernel
theorem dL_law_2788 : decode cL_law 2788 = .ok (.iconst 2, 1) := by decide +kernel
theorem dL_law_2789 : decode cL_law 2789 = .ok (.iadd, 1) := by decide +kernel
theorem dL_law_2790 : decode cL_law 2790 = .ok (.iaload, 1) := by decide +kernel
theorem dL_law_2791 : decode cL_law 2791 = .ok (.aload_n 0, 1) := by decide +kernel
theorem dL_law_2792 : decode cL_law 2792 = .ok (.iload 4, 2) := by decide +kernel
theorem dL_law_2794 : decode cL_law 2794 = .ok (.iconst 3, 1) := by decide +kernel
theorem dL_law_2795 : decode cL_law 2795 = .ok (.iadd, 1) := by decide +kernel
theorem dL_law_2796 : decode cL_law 2796 = .ok (.iaload, 1) := by decide +kernel
theorem dL_law_2797 : decode cL_law 2797 = .ok (.aload_n 3, 1) := by decide +kernel
theorem dL_law_2798 : decode cL_law 2798 = .ok (.invokestatic 262, 3) := by decide +kernel
theorem dL_law_2801 : decode cL_law 2801 = .ok (.istore 5, 2) := by decide +kernel
theorem dL_law_2803 : decode cL_law 2803 = .ok (.aload_n 2, 1) := by decide +kernel
theorem dL_law_2804 : decode cL_law 2804 = .ok (.aload_n 0, 1) := by decide +kernel
theorem dL_law_2805 : decode cL_law 2805 = .ok (.iload 4, 2) := by decide +kernel
theorem dL_law_2807 : decode cL_law 2807 = .ok (.iconst 1, 1) := by decide +kernel
theorem dL_law_2808 : decode cL_law 2808 = .ok (.iadd, 1) := by decide +kernel
theorem dL_law_2809 : decode cL_law 2809 = .ok (.iaload, 1) := by decide +kernel
theorem dL_law_2810 : decode cL_law 2810 = .ok (.aload_n 0, 1) := by decide +kernel
theorem dL_law_2811 : decode cL_law 2811 = .ok (.iload 4, 2) := by decide +kernel
theorem dL_law_2813 : decode cL_law 2813 = .ok (.iconst 2, 1) := by decide +kernel
theorem dL_law_2814 : decode cL_law 2814 = .ok (.iadd, 1) := by decide +kernel
theorem dL_law_2815 : decode cL_law 2815 = .ok (.iaload, 1) := by decide +kernel
theorem dL_law_2816 : decode cL_law 2816 = .ok (.aload_n 0, 1) := by decide +kernel
theorem dL_law_2817 : decode cL_law 2817 = .ok (.iload 4, 2) := by decide +kernel
theorem dL_law_2819 : decode cL_law 2819 = .ok (.iconst 3, 1) := by decide +kernel
theorem dL_law_2820 : decode cL_law 2820 = .ok (.iadd, 1) := by decide +kernel
theorem dL_law_2821 : decode cL_law 2821 = .ok (.iaload, 1) := by decide +kernel
theorem dL_law_2822 : decode cL_law 2822 = .ok (.invokevirtual 264, 3) := by decide +kernel
theorem dL_law_2825 : decode cL_law 2825 = .ok (.istore 6, 2) := by decide +kernel
theorem dL_law_2827 : decode cL_law 2827 = .ok (.aload_n 2, 1) := by decide +kernel
theorem dL_law_2828 : decode cL_law 2828 = .ok (.invokevirtual 151, 3) := by decide +kernel
theorem dL_law_2831 : decode cL_law 2831 = .ok (.iload 5, 2) := by decide +kernel
theorem dL_law_2833 : decode cL_law 2833 = .ok (.if_icmp .eq 5, 3) := by decide +kernel
theorem dL_law_2836 : decode cL_law 2836 = .ok (.iconst 0, 1) := by decide +kernel
theorem dL_law_2837 : decode cL_law 2837 = .ok (.ireturn, 1) := by decide +kernel
theorem dL_law_2838 : decode cL_law 2838 = .ok (.iload 5, 2) := by decide +kernel
theorem dL_law_2840 : decode cL_law 2840 = .ok (.ifCond .ne 15, 3) := by decide +kernel
theorem dL_law_2843 : decode cL_law 2843 = .ok (.aload_n 3, 1) := by decide +kernel
theorem dL_law_2844 : decode cL_law 2844 = .ok (.iconst 0, 1) := by decide +kernel
theorem dL_law_2845 : decode cL_law 2845 = .ok (.laload, 1) := by decide +kernel
theorem dL_law_2846 : decode cL_law 2846 = .ok (.iload 6, 2) := by decide +kernel
theorem dL_law_2848 : decode cL_law 2848 = .ok (.i2l, 1) := by decide +kernel
theorem dL_law_2849 : decode cL_law 2849 = .ok (.lcmp, 1) := by decide +kernel
theorem dL_law_2850 : decode cL_law 2850 = .ok (.ifCond .eq 5, 3) := by decide +kernel
theorem dL_law_2853 : decode cL_law 2853 = .ok (.iconst 0, 1) := by decide +kernel
theorem dL_law_2854 : decode cL_law 2854 = .ok (.ireturn, 1) := by decide +kernel
theorem dL_law_2855 : decode cL_law 2855 = .ok (.goto 219, 3) := by decide +kernel
theorem dL_law_2858 : decode cL_law 2858 = .ok (.aload_n 1, 1) := by decide +kernel
theorem dL_law_2859 : decode cL_law 2859 = .ok (.aload_n 0, 1) := by decide +kernel
theorem dL_law_2860 : decode cL_law 2860 = .ok (.iload 4, 2) := by decide +kernel
theorem dL_law_2862 : decode cL_law 2862 = .ok (.iconst 1, 1) := by decide +kernel
theorem dL_law_2863 : decode cL_law 2863 = .ok (.iadd, 1) := by decide +kernel
theorem dL_law_2864 : decode cL_law 2864 = .ok (.iaload, 1) := by decide +kernel
theorem dL_law_2865 : decode cL_law 2865 = .ok (.aload_n 0, 1) := by decide +kernel
theorem dL_law_2866 : decode cL_law 2866 = .ok (.iload 4, 2) := by decide +kernel
theorem dL_law_2868 : decode cL_law 2868 = .ok (.iconst 2, 1) := by decide +kernel
theorem dL_law_2869 : decode cL_law 2869 = .ok (.iadd, 1) := by decide +kernel
theorem dL_law_2870 : decode cL_law 2870 = .ok (.iaload, 1) := by decide +kernel
theorem dL_law_2871 : decode cL_law 2871 = .ok (.aload_n 0, 1) := by decide +kernel
theorem dL_law_2872 : decode cL_law 2872 = .ok (.iload 4, 2) := by decide +kernel
theorem dL_law_2874 : decode cL_law 2874 = .ok (.iconst 3, 1) := by decide +kernel
theorem dL_law_2875 : decode cL_law 2875 = .ok (.iadd, 1) := by decide +kernel
theorem dL_law_2876 : decode cL_law 2876 = .ok (.iaload, 1) := by decide +kernel
theorem dL_law_2877 : decode cL_law 2877 = .ok (.aload_n 0, 1) := by decide +kernel
theorem dL_law_2878 : decode cL_law 2878 = .ok (.iload 4, 2) := by decide +kernel
theorem dL_law_2880 : decode cL_law 2880 = .ok (.iconst 4, 1) := by decide +kernel
theorem dL_law_2881 : decode cL_law 2881 = .ok (.iadd, 1) := by decide +kernel
theorem dL_law_2882 : decode cL_law 2882 = .ok (.iaload, 1) := by decide +kernel
theorem dL_law_2883 : decode cL_law 2883 = .ok (.aload_n 3, 1) := by decide +kernel
theorem dL_law_2884 : decode cL_law 2884 = .ok (.invokestatic 265, 3) := by decide +kernel
theorem dL_law_2887 : decode cL_law 2887 = .ok (.istore 5, 2) := by decide +kernel
theorem dL_law_2889 : decode cL_law 2889 = .ok (.aload_n 2, 1) := by decide +kernel
theorem dL_law_2890 : decode cL_law 2890 = .ok (.aload_n 0, 1) := by decide +kernel
theorem dL_law_2891 : decode cL_law 2891 = .ok (.iload 4, 2) := by decide +kernel
theorem dL_law_2893 : decode cL_law 2893 = .ok (.iconst 1, 1) := by decide +kernel
theorem dL_law_2894 : decode cL_law 2894 = .ok (.iadd, 1) := by decide +kernel
theorem dL_law_2895 : decode cL_law 2895 = .ok (.iaload, 1) := by decide +kernel
theorem dL_law_2896 : decode cL_law 2896 = .ok (.aload_n 0, 1) := by decide +kernel
theorem dL_law_2897 : decode cL_law 2897 = .ok (.iload 4, 2) := by decide +kernel
theorem dL_law_2899 : decode cL_law 2899 = .ok (.iconst 2, 1) := by decide +kernel
theorem dL_law_2900 : decode cL_law 2900 = .ok (.iadd, 1) := by decide +kernel
theorem dL_law_2901 : decode cL_law 2901 = .ok (.iaload, 1) := by decide +kernel
theorem dL_law_2902 : decode cL_law 2902 = .ok (.aload_n 0, 1) := by decide +kernel
theorem dL_law_2903 : decode cL_law 2903 = .ok (.iload 4, 2) := by decide +kernel
theorem dL_law_2905 : decode cL_law 2905 = .ok (.iconst 3, 1) := by decide +kernel
theorem dL_law_2906 : decode cL_law 2906 = .ok (.iadd, 1) := by decide +kernel
theorem dL_law_2907 : decode cL_law 2907 = .ok (.iaload, 1) := by decide +kernel
theorem dL_law_2908 : decode cL_law 2908 = .ok (.aload_n 0, 1) := by decide +kernel
theorem dL_law_2909 : decode cL_law 2909 = .ok (.iload 4, 2) := by decide +kernel
theorem dL_law_2911 : decode cL_law 2911 = .ok (.iconst 4, 1) := by decide +kernel
theorem dL_law_2912 : decode cL_law 2912 = .ok (.iadd, 1) := by decide +kernel
theorem dL_law_2913 : decode cL_law 2913 = .ok (.iaload, 1) := by decide +kernel
theorem dL_law_2914 : decode cL_law 2914 = .ok (.invokevirtual 267, 3) := by decide +kernel
theorem dL_law_2917 : decode cL_law 2917 = .ok (.istore 6, 2) := by decide +kernel
theorem dL_law_2919 : decode cL_law 2919 = .ok (.aload_n 2, 1) := by decide +kernel
theorem dL_law_2920 : decode cL_law 2920 = .ok (.invokevirtual 151, 3) := by decide +kernel
theorem dL_law_2923 : decode cL_law 2923 = .ok (.iload 5, 2) := by decide +kernel
theorem dL_law_2925 : decode cL_law 2925 = .ok (.if_icmp .eq 5, 3) := by decide +kernel
theorem dL_law_2928 : decode cL_law 2928 = .ok (.iconst 0, 1) := by decide +kernel
theorem dL_law_2929 : decode cL_law 2929 = .ok (.ireturn, 1) := by decide +kernel
theorem dL_law_2930 : decode cL_law 2930 = .ok (.iload 5, 2) := by decide +kernel
theorem dL_law_2932 : decode cL_law 2932 = .ok (.ifCond .ne 15, 3) := by decide +kernel
theorem dL_law_2935 : decode cL_law 2935 = .ok (.aload_n 3, 1) := by decide +kernel
theorem dL_law_2936 : decode cL_law 2936 = .ok (.iconst 0, 1) := by decide +kernel
theorem dL_law_2937 : decode cL_law 2937 = .ok (.laload, 1) := by decide +kernel
theorem dL_law_2938 : decode cL_law 2938 = .ok (.iload 6, 2) := by decide +kernel
theorem dL_law_2940 : decode cL_law 2940 = .ok (.i2l, 1) := by decide +kernel
theorem dL_law_2941 : decode cL_law 2941 = .ok (.lcmp, 1) := by decide +kernel
theorem dL_law_2942 : decode cL_law 2942 = .ok (.ifCond .eq 5, 3) := by decide +kernel
theorem dL_law_2945 : decode cL_law 2945 = .ok (.iconst 0, 1) := by decide +kernel
theorem dL_law_2946 : decode cL_law 2946 = .ok (.ireturn, 1) := by decide +kernel
theorem dL_law_2947 : decode cL_law 2947 = .ok (.goto 127, 3) := by decide +kernel
theorem dL_law_2950 : decode cL_law 2950 = .ok (.aload_n 1, 1) := by decide +kernel
theorem dL_law_2951 : decode cL_law 2951 = .ok (.aload_n 0, 1) := by decide +kernel
theorem dL_law_2952 : decode cL_law 2952 = .ok (.iload 4, 2) := by decide +kernel
theorem dL_law_2954 : decode cL_law 2954 = .ok (.iconst 1, 1) := by decide +kernel
theorem dL_law_2955 : decode cL_law 2955 = .ok (.iadd, 1) := by decide +kernel
theorem dL_law_2956 : decode cL_law 2956 = .ok (.iaload, 1) := by decide +kernel
theorem dL_law_2957 : decode cL_law 2957 = .ok (.aload_n 0, 1) := by decide +kernel
theorem dL_law_2958 : decode cL_law 2958 = .ok (.iload 4, 2) := by decide +kernel
theorem dL_law_2960 : decode cL_law 2960 = .ok (.iconst 2, 1) := by decide +kernel
theorem dL_law_2961 : decode cL_law 2961 = .ok (.iadd, 1) := by decide +kernel
theorem dL_law_2962 : decode cL_law 2962 = .ok (.iaload, 1) := by decide +kernel
theorem dL_law_2963 : decode cL_law 2963 = .ok (.aload_n 3, 1) := by decide +kernel
theorem dL_law_2964 : decode cL_law 2964 = .ok (.invokestatic 268, 3) := by decide +kernel
theorem dL_law_2967 : decode cL_law 2967 = .ok (.istore 5, 2) := by decide +kernel
theorem dL_law_2969 : decode cL_law 2969 = .ok (.aload_n 2, 1) := by decide +kernel
theorem dL_law_2970 : decode cL_law 2970 = .ok (.aload_n 0, 1) := by decide +kernel
theorem dL_law_2971 : decode cL_law 2971 = .ok (.iload 4, 2) := by decide +kernel
theorem dL_law_2973 : decode cL_law 2973 = .ok (.iconst 1, 1) := by decide +kernel
theorem dL_law_2974 : decode cL_law 2974 = .ok (.iadd, 1) := by decide +kernel
theorem dL_law_2975 : decode cL_law 2975 = .ok (.iaload, 1) := by decide +kernel
theorem dL_law_2976 : decode cL_law 2976 = .ok (.aload_n 0, 1) := by decide +kernel
theorem dL_law_2977 : decode cL_law 2977 = .ok (.iload 4, 2) := by decide +kernel
theorem dL_law_2979 : decode cL_law 2979 = .ok (.iconst 2, 1) := by decide +kernel
theorem dL_law_2980 : decode cL_law 2980 = .ok (.iadd, 1) := by decide +kernel
theorem dL_law_2981 : decode cL_law 2981 = .ok (.iaload, 1) := by decide +kernel
theorem dL_law_2982 : decode cL_law 2982 = .ok (.invokevirtual 270, 3) := by decide +kernel
theorem dL_law_2985 : decode cL_law 2985 = .ok (.istore 6, 2) := by decide +kernel
theorem dL_law_2987 : decode cL_law 2987 = .ok (.aload_n 2, 1) := by decide +kernel
theorem dL_law_2988 : decode cL_law 2988 = .ok (.invokevirtual 151, 3) := by decide +kernel
theorem dL_law_2991 : decode cL_law 2991 = .ok (.iload 5, 2) := by decide +kernel
theorem dL_law_2993 : decode cL_law 2993 = .ok (.if_icmp .eq 5, 3) := by decide +kernel
theorem dL_law_2996 : decode cL_law 2996 = .ok (.iconst 0, 1) := by decide +kernel
theorem dL_law_2997 : decode cL_law 2997 = .ok (.ireturn, 1) := by decide +kernel
theorem dL_law_2998 : decode cL_law 2998 = .ok (.iload 5, 2) := by decide +kernel
theorem dL_law_3000 : decode cL_law 3000 = .ok (.ifCond .ne 15, 3) := by decide +kernel
theorem dL_law_3003 : decode cL_law 3003 = .ok (.aload_n 3, 1) := by decide +kernel
theorem dL_law_3004 : decode cL_law 3004 = .ok (.iconst 0, 1) := by decide +kernel
theorem dL_law_3005 : decode cL_law 3005 = .ok (.laload, 1) := by decide +kernel
theorem dL_law_3006 : decode cL_law 3006 = .ok (.iload 6, 2) := by decide +kernel
theorem dL_law_3008 : decode cL_law 3008 = .ok (.i2l, 1) := by decide +kernel
theorem dL_law_3009 : decode cL_law 3009 = .ok (.lcmp, 1) := by decide +kernel
theorem dL_law_3010 : decode cL_law 3010 = .ok (.ifCond .eq 5, 3) := by decide +kernel
theorem dL_law_3013 : decode cL_law 3013 = .ok (.iconst 0, 1) := by decide +kernel
theorem dL_law_3014 : decode cL_law 3014 = .ok (.ireturn, 1) := by decide +kernel
theorem dL_law_3015 : decode cL_law 3015 = .ok (.goto 59, 3) := by decide +kernel
theorem dL_law_3018 : decode cL_law 3018 = .ok (.aload_n 1, 1) := by decide +kernel
theorem dL_law_3019 : decode cL_law 3019 = .ok (.aload_n 0, 1) := by decide +kernel
theorem dL_law_3020 : decode cL_law 3020 = .ok (.iload 4, 2) := by decide +kernel
theorem dL_law_3022 : decode cL_law 3022 = .ok (.iconst 1, 1) := by decide +kernel
theorem dL_law_3023 : decode cL_law 3023 = .ok (.iadd, 1) := by decide +kernel
theorem dL_law_3024 : decode cL_law 3024 = .ok (.iaload, 1) := by decide +kernel
theorem dL_law_3025 : decode cL_law 3025 = .ok (.aload_n 3, 1) := by decide +kernel
theorem dL_law_3026 : decode cL_law 3026 = .ok (.invokestatic 271, 3) := by decide +kernel
theorem dL_law_3029 : decode cL_law 3029 = .ok (.istore 5, 2) := by decide +kernel
theorem dL_law_3031 : decode cL_law 3031 = .ok (.aload_n 2, 1) := by decide +kernel
theorem dL_law_3032 : decode cL_law 3032 = .ok (.aload_n 0, 1) := by decide +kernel
theorem dL_law_3033 : decode cL_law 3033 = .ok (.iload 4, 2) := by decide +kernel
theorem dL_law_3035 : decode cL_law 3035 = .ok (.iconst 1, 1) := by decide +kernel
theorem dL_law_3036 : decode cL_law 3036 = .ok (.iadd, 1) := by decide +kernel
theorem dL_law_3037 : decode cL_law 3037 = .ok (.iaload, 1) := by decide +kernel
theorem dL_law_3038 : decode cL_law 3038 = .ok (.invokevirtual 273, 3) := by decide +kernel
theorem dL_law_3041 : decode cL_law 3041 = .ok (.istore 6, 2) := by decide +kernel
theorem dL_law_3043 : decode cL_law 3043 = .ok (.aload_n 2, 1) := by decide +kernel
theorem dL_law_3044 : decode cL_law 3044 = .ok (.invokevirtual 151, 3) := by decide +kernel
theorem dL_law_3047 : decode cL_law 3047 = .ok (.iload 5, 2) := by decide +kernel
theorem dL_law_3049 : decode cL_law 3049 = .ok (.if_icmp .eq 5, 3) := by decide +kernel
theorem dL_law_3052 : decode cL_law 3052 = .ok (.iconst 0, 1) := by decide +kernel
theorem dL_law_3053 : decode cL_law 3053 = .ok (.ireturn, 1) := by decide +kernel
theorem dL_law_3054 : decode cL_law 3054 = .ok (.iload 5, 2) := by decide +kernel
theorem dL_law_3056 : decode cL_law 3056 = .ok (.ifCond .ne 15, 3) := by decide +kernel
theorem dL_law_3059 : decode cL_law 3059 = .ok (.aload_n 3, 1) := by decide +kernel
theorem dL_law_3060 : decode cL_law 3060 = .ok (.iconst 0, 1) := by decide +kernel
theorem dL_law_3061 : decode cL_law 3061 = .ok (.laload, 1) := by decide +kernel
theorem dL_law_3062 : decode cL_law 3062 = .ok (.iload 6, 2) := by decide +kernel
theorem dL_law_3064 : decode cL_law 3064 = .ok (.i2l, 1) := by decide +kernel
theorem dL_law_3065 : decode cL_law 3065 = .ok (.lcmp, 1) := by decide +kernel
theorem dL_law_3066 : decode cL_law 3066 = .ok (.ifCond .eq 5, 3) := by decide +kernel
theorem dL_law_3069 : decode cL_law 3069 = .ok (.iconst 0, 1) := by decide +kernel
theorem dL_law_3070 : decode cL_law 3070 = .ok (.ireturn, 1) := by decide +kernel
theorem dL_law_3071 : decode cL_law 3071 = .ok (.goto 3, 3) := by decide +kernel
theorem dL_law_3074 : decode cL_law 3074 = .ok (.iinc 4 7, 3) := by decide +kernel
theorem dL_law_3077 : decode cL_law 3077 = .ok (.goto (-3054), 3) := by decide +kernel
theorem dL_law_3080 : decode cL_law 3080 = .ok (.iconst 1, 1) := by decide +kernel
theorem dL_law_3081 : decode cL_law 3081 = .ok (.ireturn, 1) := by decide +kernel
