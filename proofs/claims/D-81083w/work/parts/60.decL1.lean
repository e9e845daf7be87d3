set_option maxRecDepth 100000
theorem dL_law_591 : decode cL_law 591 = .ok (.if_icmp .eq 5, 3) := by decide +kernel
theorem dL_law_594 : decode cL_law 594 = .ok (.iconst 0, 1) := by decide +kernel
theorem dL_law_595 : decode cL_law 595 = .ok (.ireturn, 1) := by decide +kernel
theorem dL_law_596 : decode cL_law 596 = .ok (.iload 5, 2) := by decide +kernel
theorem dL_law_598 : decode cL_law 598 = .ok (.ifCond .ne 15, 3) := by decide +kernel
theorem dL_law_601 : decode cL_law 601 = .ok (.aload_n 3, 1) := by decide +kernel
theorem dL_law_602 : decode cL_law 602 = .ok (.iconst 0, 1) := by decide +kernel
theorem dL_law_603 : decode cL_law 603 = .ok (.laload, 1) := by decide +kernel
theorem dL_law_604 : decode cL_law 604 = .ok (.iload 6, 2) := by decide +kernel
theorem dL_law_606 : decode cL_law 606 = .ok (.i2l, 1) := by decide +kernel
theorem dL_law_607 : decode cL_law 607 = .ok (.lcmp, 1) := by decide +kernel
theorem dL_law_608 : decode cL_law 608 = .ok (.ifCond .eq 5, 3) := by decide +kernel
theorem dL_law_611 : decode cL_law 611 = .ok (.iconst 0, 1) := by decide +kernel
theorem dL_law_612 : decode cL_law 612 = .ok (.ireturn, 1) := by decide +kernel
theorem dL_law_613 : decode cL_law 613 = .ok (.goto 2461, 3) := by decide +kernel
theorem dL_law_616 : decode cL_law 616 = .ok (.aload_n 1, 1) := by decide +kernel
theorem dL_law_617 : decode cL_law 617 = .ok (.aload_n 0, 1) := by decide +kernel
theorem dL_law_618 : decode cL_law 618 = .ok (.iload 4, 2) := by decide +kernel
theorem dL_law_620 : decode cL_law 620 = .ok (.iconst 1, 1) := by decide +kernel
theorem dL_law_621 : decode cL_law 621 = .ok (.iadd, 1) := by decide +kernel
theorem dL_law_622 : decode cL_law 622 = .ok (.iaload, 1) := by decide +kernel
theorem dL_law_623 : decode cL_law 623 = .ok (.aload_n 0, 1) := by decide +kernel
theorem dL_law_624 : decode cL_law 624 = .ok (.iload 4, 2) := by decide +kernel
theorem dL_law_626 : decode cL_law 626 = .ok (.iconst 2, 1) := by decide +kernel
theorem dL_law_627 : decode cL_law 627 = .ok (.iadd, 1) := by decide +kernel
theorem dL_law_628 : decode cL_law 628 = .ok (.iaload, 1) := by decide +kernel
theorem dL_law_629 : decode cL_law 629 = .ok (.aload_n 0, 1) := by decide +kernel
theorem dL_law_630 : decode cL_law 630 = .ok (.iload 4, 2) := by decide +kernel
theorem dL_law_632 : decode cL_law 632 = .ok (.iconst 3, 1) := by decide +kernel
theorem dL_law_633 : decode cL_law 633 = .ok (.iadd, 1) := by decide +kernel
theorem dL_law_634 : decode cL_law 634 = .ok (.iaload, 1) := by decide +kernel
theorem dL_law_635 : decode cL_law 635 = .ok (.aload_n 0, 1) := by decide +kernel
theorem dL_law_636 : decode cL_law 636 = .ok (.iload 4, 2) := by decide +kernel
theorem dL_law_638 : decode cL_law 638 = .ok (.iconst 4, 1) := by decide +kernel
theorem dL_law_639 : decode cL_law 639 = .ok (.iadd, 1) := by decide +kernel
theorem dL_law_640 : decode cL_law 640 = .ok (.iaload, 1) := by decide +kernel
theorem dL_law_641 : decode cL_law 641 = .ok (.aload_n 0, 1) := by decide +kernel
theorem dL_law_642 : decode cL_law 642 = .ok (.iload 4, 2) := by decide +kernel
theorem dL_law_644 : decode cL_law 644 = .ok (.iconst 5, 1) := by decide +kernel
theorem dL_law_645 : decode cL_law 645 = .ok (.iadd, 1) := by decide +kernel
theorem dL_law_646 : decode cL_law 646 = .ok (.iaload, 1) := by decide +kernel
theorem dL_law_647 : decode cL_law 647 = .ok (.aload_n 3, 1) := by decide +kernel
theorem dL_law_648 : decode cL_law 648 = .ok (.invokestatic 172, 3) := by decide +kernel
theorem dL_law_651 : decode cL_law 651 = .ok (.istore 5, 2) := by decide +kernel
theorem dL_law_653 : decode cL_law 653 = .ok (.aload_n 2, 1) := by decide +kernel
theorem dL_law_654 : decode cL_law 654 = .ok (.aload_n 0, 1) := by decide +kernel
theorem dL_law_655 : decode cL_law 655 = .ok (.iload 4, 2) := by decide +kernel
theorem dL_law_657 : decode cL_law 657 = .ok (.iconst 1, 1) := by decide +kernel
theorem dL_law_658 : decode cL_law 658 = .ok (.iadd, 1) := by decide +kernel
theorem dL_law_659 : decode cL_law 659 = .ok (.iaload, 1) := by decide +kernel
theorem dL_law_660 : decode cL_law 660 = .ok (.aload_n 0, 1) := by decide +kernel
theorem dL_law_661 : decode cL_law 661 = .ok (.iload 4, 2) := by decide +kernel
theorem dL_law_663 : decode cL_law 663 = .ok (.iconst 2, 1) := by decide +kernel
theorem dL_law_664 : decode cL_law 664 = .ok (.iadd, 1) := by decide +kernel
theorem dL_law_665 : decode cL_law 665 = .ok (.iaload, 1) := by decide +kernel
theorem dL_law_666 : decode cL_law 666 = .ok (.aload_n 0, 1) := by decide +kernel
theorem dL_law_667 : decode cL_law 667 = .ok (.iload 4, 2) := by decide +kernel
theorem dL_law_669 : decode cL_law 669 = .ok (.iconst 3, 1) := by decide +kernel
theorem dL_law_670 : decode cL_law 670 = .ok (.iadd, 1) := by decide +kernel
theorem dL_law_671 : decode cL_law 671 = .ok (.iaload, 1) := by decide +kernel
theorem dL_law_672 : decode cL_law 672 = .ok (.aload_n 0, 1) := by decide +kernel
theorem dL_law_673 : decode cL_law 673 = .ok (.iload 4, 2) := by decide +kernel
theorem dL_law_675 : decode cL_law 675 = .ok (.iconst 4, 1) := by decide +kernel
theorem dL_law_676 : decode cL_law 676 = .ok (.iadd, 1) := by decide +kernel
theorem dL_law_677 : decode cL_law 677 = .ok (.iaload, 1) := by decide +kernel
theorem dL_law_678 : decode cL_law 678 = .ok (.aload_n 0, 1) := by decide +kernel
theorem dL_law_679 : decode cL_law 679 = .ok (.iload 4, 2) := by decide +kernel
theorem dL_law_681 : decode cL_law 681 = .ok (.iconst 5, 1) := by decide +kernel
theorem dL_law_682 : decode cL_law 682 = .ok (.iadd, 1) := by decide +kernel
theorem dL_law_683 : decode cL_law 683 = .ok (.iaload, 1) := by decide +kernel
theorem dL_law_684 : decode cL_law 684 = .ok (.invokevirtual 175, 3) := by decide +kernel
theorem dL_law_687 : decode cL_law 687 = .ok (.istore 6, 2) := by decide +kernel
theorem dL_law_689 : decode cL_law 689 = .ok (.aload_n 2, 1) := by decide +kernel
theorem dL_law_690 : decode cL_law 690 = .ok (.invokevirtual 151, 3) := by decide +kernel
theorem dL_law_693 : decode cL_law 693 = .ok (.iload 5, 2) := by decide +kernel
theorem dL_law_695 : decode cL_law 695 = .ok (.if_icmp .eq 5, 3) := by decide +kernel
theorem dL_law_698 : decode cL_law 698 = .ok (.iconst 0, 1) := by decide +kernel
theorem dL_law_699 : decode cL_law 699 = .ok (.ireturn, 1) := by decide +kernel
theorem dL_law_700 : decode cL_law 700 = .ok (.iload 5, 2) := by decide +kernel
theorem dL_law_702 : decode cL_law 702 = .ok (.ifCond .ne 15, 3) := by decide +kernel
theorem dL_law_705 : decode cL_law 705 = .ok (.aload_n 3, 1) := by decide +kernel
theorem dL_law_706 : decode cL_law 706 = .ok (.iconst 0, 1) := by decide +kernel
theorem dL_law_707 : decode cL_law 707 = .ok (.laload, 1) := by decide +kernel
theorem dL_law_708 : decode cL_law 708 = .ok (.iload 6, 2) := by decide +kernel
theorem dL_law_710 : decode cL_law 710 = .ok (.i2l, 1) := by decide +kernel
theorem dL_law_711 : decode cL_law 711 = .ok (.lcmp, 1) := by decide +kernel
theorem dL_law_712 : decode cL_law 712 = .ok (.ifCond .eq 5, 3) := by decide +kernel
theorem dL_law_715 : decode cL_law 715 = .ok (.iconst 0, 1) := by decide +kernel
theorem dL_law_716 : decode cL_law 716 = .ok (.ireturn, 1) := by decide +kernel
theorem dL_law_717 : decode cL_law 717 = .ok (.goto 2357, 3) := by decide +kernel
theorem dL_law_720 : decode cL_law 720 = .ok (.aload_n 1, 1) := by decide +kernel
theorem dL_law_721 : decode cL_law 721 = .ok (.aload_n 0, 1) := by decide +kernel
theorem dL_law_722 : decode cL_law 722 = .ok (.iload 4, 2) := by decide +kernel
theorem dL_law_724 : decode cL_law 724 = .ok (.iconst 1, 1) := by decide +kernel
theorem dL_law_725 : decode cL_law 725 = .ok (.iadd, 1) := by decide +kernel
theorem dL_law_726 : decode cL_law 726 = .ok (.iaload, 1) := by decide +kernel
theorem dL_law_727 : decode cL_law 727 = .ok (.aload_n 3, 1) := by decide +kernel
theorem dL_law_728 : decode cL_law 728 = .ok (.invokestatic 176, 3) := by decide +kernel
theorem dL_law_731 : decode cL_law 731 = .ok (.istore 5, 2) := by decide +kernel
theorem dL_law_733 : decode cL_law 733 = .ok (.aload_n 2, 1) := by decide +kernel
theorem dL_law_734 : decode cL_law 734 = .ok (.aload_n 0, 1) := by decide +kernel
theorem dL_law_735 : decode cL_law 735 = .ok (.iload 4, 2) := by decide +kernel
theorem dL_law_737 : decode cL_law 737 = .ok (.iconst 1, 1) := by decide +kernel
theorem dL_law_738 : decode cL_law 738 = .ok (.iadd, 1) := by decide +kernel
theorem dL_law_739 : decode cL_law 739 = .ok (.iaload, 1) := by decide +kernel
theorem dL_law_740 : decode cL_law 740 = .ok (.invokevirtual 178, 3) := by decide +kernel
theorem dL_law_743 : decode cL_law 743 = .ok (.istore 6, 2) := by decide +kernel
theorem dL_law_745 : decode cL_law 745 = .ok (.aload_n 2, 1) := by decide +kernel
theorem dL_law_746 : decode cL_law 746 = .ok (.invokevirtual 151, 3) := by decide +kernel
theorem dL_law_749 : decode cL_law 749 = .ok (.iload 5, 2) := by decide +kernel
theorem dL_law_751 : decode cL_law 751 = .ok (.if_icmp .eq 5, 3) := by decide +kernel
theorem dL_law_754 : decode cL_law 754 = .ok (.iconst 0, 1) := by decide +kernel
theorem dL_law_755 : decode cL_law 755 = .ok (.ireturn, 1) := by decide +kernel
theorem dL_law_756 : decode cL_law 756 = .ok (.iload 5, 2) := by decide +kernel
theorem dL_law_758 : decode cL_law 758 = .ok (.ifCond .ne 15, 3) := by decide +kernel
theorem dL_law_761 : decode cL_law 761 = .ok (.aload_n 3, 1) := by decide +kernel
theorem dL_law_762 : decode cL_law 762 = .ok (.iconst 0, 1) := by decide +kernel
theorem dL_law_763 : decode cL_law 763 = .ok (.laload, 1) := by decide +kernel
theorem dL_law_764 : decode cL_law 764 = .ok (.iload 6, 2) := by decide +kernel
theorem dL_law_766 : decode cL_law 766 = .ok (.i2l, 1) := by decide +kernel
theorem dL_law_767 : decode cL_law 767 = .ok (.lcmp, 1) := by decide +kernel
theorem dL_law_768 : decode cL_law 768 = .ok (.ifCond .eq 5, 3) := by decide +kernel
theorem dL_law_771 : decode cL_law 771 = .ok (.iconst 0, 1) := by decide +kernel
theorem dL_law_772 : decode cL_law 772 = .ok (.ireturn, 1) := by decide +kernel
theorem dL_law_773 : decode cL_law 773 = .ok (.goto 2301, 3) := by decide +kernel
theorem dL_law_776 : decode cL_law 776 = .ok (.aload_n 1, 1) := by decide +kernel
theorem dL_law_777 : decode cL_law 777 = .ok (.aload_n 3, 1) := by decide +kernel
theorem dL_law_778 : decode cL_law 778 = .ok (.invokestatic 179, 3) := by decide +kernel
theorem dL_law_781 : decode cL_law 781 = .ok (.istore 5, 2) := by decide +kernel
theorem dL_law_783 : decode cL_law 783 = .ok (.aload_n 2, 1) := by decide +kernel
theorem dL_law_784 : decode cL_law 784 = .ok (.invokevirtual 181, 3) := by decide +kernel
theorem dL_law_787 : decode cL_law 787 = .ok (.istore 6, 2) := by decide +kernel
theorem dL_law_789 : decode cL_law 789 = .ok (.aload_n 2, 1) := by decide +kernel
theorem dL_law_790 : decode cL_law 790 = .ok (.invokevirtual 151, 3) := by decide +kernel
theorem dL_law_793 : decode cL_law 793 = .ok (.iload 5, 2) := by decide +kernel
theorem dL_law_795 : decode cL_law 795 = .ok (.if_icmp .eq 5, 3) := by decide +kernel
theorem dL_law_798 : decode cL_law 798 = .ok (.iconst 0, 1) := by decide +kernel
theorem dL_law_799 : decode cL_law 799 = .ok (.ireturn, 1) := by decide +kernel
theorem dL_law_800 : decode cL_law 800 = .ok (.iload 5, 2) := by decide +kernel
theorem dL_law_802 : decode cL_law 802 = .ok (.ifCond .ne 15, 3) := by decide +kernel
theorem dL_law_805 : decode cL_law 805 = .ok (.aload_n 3, 1) := by decide +kernel
theorem dL_law_806 : decode cL_law 806 = .ok (.iconst 0, 1) := by decide +kernel
theorem dL_law_807 : decode cL_law 807 = .ok (.laload, 1) := by decide +kernel
theorem dL_law_808 : decode cL_law 808 = .ok (.iload 6, 2) := by decide +kernel
theorem dL_law_810 : decode cL_law 810 = .ok (.i2l, 1) := by decide +kernel
theorem dL_law_811 : decode cL_law 811 = .ok (.lcmp, 1) := by decide +kernel
theorem dL_law_812 : decode cL_law 812 = .ok (.ifCond .eq 5, 3) := by decide +kernel
theorem dL_law_815 : decode cL_law 815 = .ok (.iconst 0, 1) := by decide +kernel
theorem dL_law_816 : decode cL_law 816 = .ok (.ireturn, 1) := by decide +kernel
theorem dL_law_817 : decode cL_law 817 = .ok (.goto 2257, 3) := by decide +kernel
theorem dL_law_820 : decode cL_law 820 = .ok (.aload_n 1, 1) := by decide +kernel
theorem dL_law_821 : decode cL_law 821 = .ok (.aload_n 0, 1) := by decide +kernel
theorem dL_law_822 : decode cL_law 822 = .ok (.iload 4, 2) := by decide +kernel
theorem dL_law_824 : decode cL_law 824 = .ok (.iconst 1, 1) := by decide +kernel
theorem dL_law_825 : decode cL_law 825 = .ok (.iadd, 1) := by decide +kernel
theorem dL_law_826 : decode cL_law 826 = .ok (.iaload, 1) := by decide +kernel
theorem dL_law_827 : decode cL_law 827 = .ok (.aload_n 0, 1) := by decide +kernel
theorem dL_law_828 : decode cL_law 828 = .ok (.iload 4, 2) := by decide +kernel
theorem dL_law_830 : decode cL_law 830 = .ok (.iconst 2, 1) := by decide +kernel
theorem dL_law_831 : decode cL_law 831 = .ok (.iadd, 1) := by decide +kernel
theorem dL_law_832 : decode cL_law 832 = .ok (.iaload, 1) := by decide +kernel
theorem dL_law_833 : decode cL_law 833 = .ok (.aload_n 0, 1) := by decide +kernel
theorem dL_law_834 : decode cL_law 834 = .ok (.iload 4, 2) := by decide +kernel
theorem dL_law_836 : decode cL_law 836 = .ok (.iconst 3, 1) := by decide +kernel
theorem dL_law_837 : decode cL_law 837 = .ok (.iadd, 1) := by decide +kernel
theorem dL_law_838 : decode cL_law 838 = .ok (.iaload, 1) := by decide +kernel
theorem dL_law_839 : decode cL_law 839 = .ok (.aload_n 3, 1) := by decide +kernel
theorem dL_law_840 : decode cL_law 840 = .ok (.invokestatic 182, 3) := by decide +kernel
theorem dL_law_843 : decode cL_law 843 = .ok (.istore 5, 2) := by decide +kernel
theorem dL_law_845 : decode cL_law 845 = .ok (.aload_n 2, 1) := by decide +kernel
theorem dL_law_846 : decode cL_law 846 = .ok (.aload_n 0, 1) := by decide +kernel
theorem dL_law_847 : decode cL_law 847 = .ok (.iload 4, 2) := by decide +kernel
theorem dL_law_849 : decode cL_law 849 = .ok (.iconst 1, 1) := by decide +kernel
theorem dL_law_850 : decode cL_law 850 = .ok (.iadd, 1) := by decide +kernel
theorem dL_law_851 : decode cL_law 851 = .ok (.iaload, 1) := by decide +kernel
theorem dL_law_852 : decode cL_law 852 = .ok (.aload_n 0, 1) := by decide +kernel
theorem dL_law_853 : decode cL_law 853 = .ok (.iload 4, 2) := by decide +kernel
theorem dL_law_855 : decode cL_law 855 = .ok (.iconst 2, 1) := by decide +kernel
theorem dL_law_856 : decode cL_law 856 = .ok (.iadd, 1) := by decide +kernel
theorem dL_law_857 : decode cL_law 857 = .ok (.iaload, 1) := by decide +kernel
theorem dL_law_858 : decode cL_law 858 = .ok (.aload_n 0, 1) := by decide +kernel
theorem dL_law_859 : decode cL_law 859 = .ok (.iload 4, 2) := by decide +kernel
theorem dL_law_861 : decode cL_law 861 = .ok (.iconst 3, 1) := by decide +kernel
theorem dL_law_862 : decode cL_law 862 = .ok (.iadd, 1) := by decide +kernel
theorem dL_law_863 : decode cL_law 863 = .ok (.iaload, 1) := by decide +kernel
theorem dL_law_864 : decode cL_law 864 = .ok (.invokevirtual 185, 3) := by decide +kernel
theorem dL_law_867 : decode cL_law 867 = .ok (.istore 6, 2) := by decide +kernel
theorem dL_law_869 : decode cL_law 869 = .ok (.aload_n 2, 1) := by decide +kernel
theorem dL_law_870 : decode cL_law 870 = .ok (.invokevirtual 151, 3) := by decide +kernel
theorem dL_law_873 : decode cL_law 873 = .ok (.iload 5, 2) := by decide +kernel
theorem dL_law_875 : decode cL_law 875 = .ok (.if_icmp .eq 5, 3) := by decide +kernel
theorem dL_law_878 : decode cL_law 878 = .ok (.iconst 0, 1) := by decide +kernel
theorem dL_law_879 : decode cL_law 879 = .ok (.ireturn, 1) := by decide +kernel
theorem dL_law_880 : decode cL_law 880 = .ok (.iload 5, 2) := by decide +kernel
theorem dL_law_882 : decode cL_law 882 = .ok (.ifCond .ne 15, 3) := by decide +kernel
theorem dL_law_885 : decode cL_law 885 = .ok (.aload_n 3, 1) := by decide +kernel
theorem dL_law_886 : decode cL_law 886 = .ok (.iconst 0, 1) := by decide +kernel
theorem dL_law_887 : decode cL_law 887 = .ok (.laload, 1) := by decide +kernel
theorem dL_law_888 : decode cL_law 888 = .ok (.iload 6, 2) := by decide +kernel
theorem dL_law_890 : decode cL_law 890 = .ok (.i2l, 1) := by decide +kernel
theorem dL_law_891 : decode cL_law 891 = .ok (.lcmp, 1) := by decide +kernel
theorem dL_law_892 : decode cL_law 892 = .ok (.ifCond .eq 5, 3) := by decide +kernel
theorem dL_law_895 : decode cL_law 895 = .ok (.iconst 0, 1) := by decide +kernel
theorem dL_law_896 : decode cL_law 896 = .ok (.ireturn, 1) := by decide +kernel
theorem dL_law_897 : decode cL_law 897 = .ok (.goto 2177, 3) := by decide +kernel
theorem dL_law_900 : decode cL_law 900 = .ok (.aload_n 1, 1) := by decide +kernel
theorem dL_law_901 : decode cL_law 901 = .ok (.aload_n 0, 1) := by decide +kernel
theorem dL_law_902 : decode cL_law 902 = .ok (.iload 4, 2) := by decide +kernel
theorem dL_law_904 : decode cL_law 904 = .ok (.iconst 1, 1) := by decide +kernel
theorem dL_law_905 : decode cL_law 905 = .ok (.iadd, 1) := by decide +kernel
theorem dL_law_906 : decode cL_law 906 = .ok (.iaload, 1) := by decide +kernel
theorem dL_law_907 : decode cL_law 907 = .ok (.aload_n 0, 1) := by decide +kernel
theorem dL_law_908 : decode cL_law 908 = .ok (.iload 4, 2) := by decide +kernel
theorem dL_law_910 : decode cL_law 910 = .ok (.iconst 2, 1) := by decide +kernel
theorem dL_law_911 : decode cL_law 911 = .ok (.iadd, 1) := by decide +kernel
theorem dL_law_912 : decode cL_law 912 = .ok (.iaload, 1) := by decide +kernel
theorem dL_law_913 : decode cL_law 913 = .ok (.aload_n 3, 1) := by decide +kernel
theorem dL_law_914 : decode cL_law 914 = .ok (.invokestatic 186, 3) := by decide +kernel
theorem dL_law_917 : decode cL_law 917 = .ok (.istore 5, 2) := by decide +kernel
theorem dL_law_919 : decode cL_law 919 = .ok (.aload_n 2, 1) := by decide +kernel
theorem dL_law_920 : decode cL_law 920 = .ok (.aload_n 0, 1) := by decide +kernel
theorem dL_law_921 : decode cL_law 921 = .ok (.iload 4, 2) := by decide +kernel
theorem dL_law_923 : decode cL_law 923 = .ok (.iconst 1, 1) := by decide +kernel
theorem dL_law_924 : decode cL_law 924 = .ok (.iadd, 1) := by decide +kernel
theorem dL_law_925 : decode cL_law 925 = .ok (.iaload, 1) := by decide +kernel
theorem dL_law_926 : decode cL_law 926 = .ok (.aload_n 0, 1) := by decide +kernel
theorem dL_law_927 : decode cL_law 927 = .ok (.iload 4, 2) := by decide +kernel
theorem dL_law_929 : decode cL_law 929 = .ok (.iconst 2, 1) := by decide +kernel
theorem dL_law_930 : decode cL_law 930 = .ok (.iadd, 1) := by decide +kernel
theorem dL_law_931 : decode cL_law 931 = .ok (.iaload, 1) := by decide +kernel
theorem dL_law_932 : decode cL_law 932 = .ok (.invokevirtual 188, 3) := by decide +kernel
theorem dL_law_935 : decode cL_law 935 = .ok (.istore 6, 2) := by decide +kernel
theorem dL_law_937 : decode cL_law 937 = .ok (.aload_n 2, 1) := by decide +kernel
theorem dL_law_938 : decode cL_law 938 = .ok (.invokevirtual 151, 3) := by decide +kernel
theorem dL_law_941 : decode cL_law 941 = .ok (.iload 5, 2) := by decide +kernel
theorem dL_law_943 : decode cL_law 943 = .ok (.if_icmp .eq 5, 3) := by decide +kernel
theorem dL_law_946 : decode cL_law 946 = .ok (.iconst 0, 1) := by decide +kernel
theorem dL_law_947 : decode cL_law 947 = .ok (.ireturn, 1) := by decide +kernel
theorem dL_law_948 : decode cL_law 948 = .ok (.iload 5, 2) := by decide +kernel
theorem dL_law_950 : decode cL_law 950 = .ok (.ifCond .ne 15, 3) := by decide +kernel
theorem dL_law_953 : decode cL_law 953 = .ok (.aload_n 3, 1) := by decide +kernel
theorem dL_law_954 : decode cL_law 954 = .ok (.iconst 0, 1) := by decide +kernel
theorem dL_law_955 : decode cL_law 955 = .ok (.laload, 1) := by decide +kernel
theorem dL_law_956 : decode cL_law 956 = .ok (.iload 6, 2) := by decide +kernel
theorem dL_law_958 : decode cL_law 958 = .ok (.i2l, 1) := by decide +kernel
theorem dL_law_959 : decode cL_law 959 = .ok (.lcmp, 1) := by decide +kernel
theorem dL_law_960 : decode cL_law 960 = .ok (.ifCond .eq 5, 3) := by decide +kernel
theorem dL_law_963 : decode cL_law 963 = .ok (.iconst 0, 1) := by decide +kernel
theorem dL_law_964 : decode cL_law 964 = .ok (.ireturn, 1) := by decide +kernel
theorem dL_law_965 : decode cL_law 965 = .ok (.goto 2109, 3) := by decide +kernel
theorem dL_law_968 : decode cL_law 968 = .ok (.aload_n 1, 1) := by decide +kernel
theorem dL_law_969 : decode cL_law 969 = .ok (.aload_n 0, 1) := by decide +kernel
theorem dL_law_970 : decode cL_law 970 = .ok (.iload 4, 2) := by decide +kernel
theorem dL_law_972 : decode cL_law 972 = .ok (.iconst 1, 1) := by decide +kernel
theorem dL_law_973 : decode cL_law 973 = .ok (.iadd, 1) := by decide +kernel
theorem dL_law_974 : decode cL_law 974 = .ok (.iaload, 1) := by decide +kernel
theorem dL_law_975 : decode cL_law 975 = .ok (.aload_n 3, 1) := by decide +kernel
theorem dL_law_976 : decode cL_law 976 = .ok (.invokestatic 189, 3) := by decide +kernel
theorem dL_law_979 : decode cL_law 979 = .ok (.istore 5, 2) := by decide +kernel
theorem dL_law_981 : decode cL_law 981 = .ok (.aload_n 2, 1) := by decide +kernel
theorem dL_law_982 : decode cL_law 982 = .ok (.aload_n 0, 1) := by decide +kernel
theorem dL_law_983 : decode cL_law 983 = .ok (.iload 4, 2) := by decide +kernel
theorem dL_law_985 : decode cL_law 985 = .ok (.iconst 1, 1) := by decide +kernel
theorem dL_law_986 : decode cL_law 986 = .ok (.iadd, 1) := by decide +kernel
theorem dL_law_987 : decode cL_law 987 = .ok (.iaload, 1) := by decide +kernel
theorem dL_law_988 : decode cL_law 988 = .ok (.invokevirtual 191, 3) := by decide +kernel
theorem dL_law_991 : decode cL_law 991 = .ok (.istore 6, 2) := by decide +kernel
theorem dL_law_993 : decode cL_law 993 = .ok (.aload_n 2, 1) := by decide +kernel
theorem dL_law_994 : decode cL_law 994 = .ok (.invokevirtual 151, 3) := by decide +kernel
theorem dL_law_997 : decode cL_law 997 = .ok (.iload 5, 2) := by decide +kernel
theorem dL_law_999 : decode cL_law 999 = .ok (.if_icmp .eq 5, 3) := by decide +kernel
theorem dL_law_1002 : decode cL_law 1002 = .ok (.iconst 0, 1) := by decide +kernel
theorem dL_law_1003 : decode cL_law 1003 = .ok (.ireturn, 1) := by decide +kernel
theorem dL_law_1004 : decode cL_law 1004 = .ok (.iload 5, 2) := by decide +kernel
theorem dL_law_1006 : decode cL_law 1006 = .ok (.ifCond .ne 15, 3) := by decide +kernel
theorem dL_law_1009 : decode cL_law 1009 = .ok (.aload_n 3, 1) := by decide +kernel
theorem dL_law_1010 : decode cL_law 1010 = .ok (.iconst 0, 1) := by decide +kernel
theorem dL_law_1011 : decode cL_law 1011 = .ok (.laload, 1) := by decide +kernel
theorem dL_law_1012 : decode cL_law 1012 = .ok (.iload 6, 2) := by decide +kernel
theorem dL_law_1014 : decode cL_law 1014 = .ok (.i2l, 1) := by decide +kernel
